/-! PuzzleWedModel -/
set_option maxRecDepth 100000
def RX7 : String := "PuzzleWedModel"
def TX7 : u_T := fun k => match k with
  | 0 => ("PuzzleWedModel", "now", "[I", true)
  | 1 => ("PuzzleWedModel", "aside", "[I", true)
  | 2 => ("PuzzleWedModel", "kept", "[I", true)
  | 3 => ("PuzzleWedModel", "tape", "[B", true)
  | 4 => ("PuzzleWedModel", "taped", "I", false)
  | 5 => ("PuzzleWedModel", "place0", "I", false)
  | 6 => ("PuzzleWedModel", "length0", "I", false)
  | 7 => ("PuzzleWedModel", "fault", "I", false)
  | 8 => ("PuzzleWedModel", "number0", "I", false)
  | 9 => ("PuzzleWedModel", "open", "I", false)
  | 10 => ("PuzzleWedModel", "codeMany", "I", false)
  | 11 => ("PuzzleWedModel", "waiting", "I", false)
  | 12 => ("PuzzleWedModel", "saidMany", "I", false)
  | 13 => ("PuzzleWedModel", "clauses", "I", false)
  | 14 => ("PuzzleWedModel", "said", "[I", true)
  | 15 => ("PuzzleWedModel", "waitsAt", "[I", true)
  | 16 => ("PuzzleWedModel", "saidLetter", "[I", true)
  | 17 => ("PuzzleWedModel", "saidFrom", "[I", true)
  | 18 => ("PuzzleWedModel", "saidHalf", "[I", true)
  | 19 => ("PuzzleWedModel", "saidTo", "[I", true)
  | 20 => ("PuzzleWedModel", "codes", "[I", true)
  | 21 => ("PuzzleWedModel", "clauseOf", "[I", true)
  | 22 => ("PuzzleWedModel", "codeFrom", "[I", true)
  | 23 => ("PuzzleWedModel", "codeHalf", "[I", true)
  | 24 => ("PuzzleWedModel", "codeTo", "[I", true)
  | 25 => ("PuzzleWedModel", "stack", "[I", true)
  | 26 => ("PuzzleWedModel", "facts", "[I", true)
  | 27 => ("PuzzleWedModel", "newHeight", "[I", true)
  | 28 => ("PuzzleWedModel", "newStop", "[I", true)
  | 29 => ("PuzzleWedModel", "newMany", "I", false)
  | 30 => ("PuzzleWedModel", "stops", "I", false)
  | 31 => ("PuzzleWedModel", "wedNow", "I", false)
  | 32 => ("PuzzleWedModel", "triesNow", "I", false)
  | 33 => ("PuzzleWedModel", "partsNow", "I", false)
  | 34 => ("PuzzleWedModel", "fitOf", "[I", true)
  | 35 => ("PuzzleWedModel", "slackNow", "[I", true)
  | 36 => ("PuzzleWedModel", "likeOf", "[I", true)
  | 37 => ("PuzzleWedModel", "bestOf", "[I", true)
  | 38 => ("PuzzleWedModel", "askedBy", "[I", true)
  | 39 => ("PuzzleWedModel", "getOf", "[I", true)
  | 40 => ("PuzzleWedModel", "rowNow", "[I", true)
  | 41 => ("PuzzleWedModel", "workOf", "[I", true)
  | 42 => ("PuzzleWedModel", "sanded", "[I", true)
  | 43 => ("PuzzleWedModel", "sandPiece", "I", false)
  | 44 => ("PuzzleWedModel", "sandA", "I", false)
  | 45 => ("PuzzleWedModel", "sandB", "I", false)
  | _ => ("PuzzleWedModel", "isKept", "Z", false)
def tyX7 : Nat → FieldType := fun k => match k with
  | 0 => .array .int
  | 1 => .array .int
  | 2 => .array .int
  | 3 => .array .byte
  | 4 => .int
  | 5 => .int
  | 6 => .int
  | 7 => .int
  | 8 => .int
  | 9 => .int
  | 10 => .int
  | 11 => .int
  | 12 => .int
  | 13 => .int
  | 14 => .array .int
  | 15 => .array .int
  | 16 => .array .int
  | 17 => .array .int
  | 18 => .array .int
  | 19 => .array .int
  | 20 => .array .int
  | 21 => .array .int
  | 22 => .array .int
  | 23 => .array .int
  | 24 => .array .int
  | 25 => .array .int
  | 26 => .array .int
  | 27 => .array .int
  | 28 => .array .int
  | 29 => .int
  | 30 => .int
  | 31 => .int
  | 32 => .int
  | 33 => .int
  | 34 => .array .int
  | 35 => .array .int
  | 36 => .array .int
  | 37 => .array .int
  | 38 => .array .int
  | 39 => .array .int
  | 40 => .array .int
  | 41 => .array .int
  | 42 => .array .int
  | 43 => .int
  | 44 => .int
  | 45 => .int
  | _ => .boolean
abbrev wsX70 : List Cond := u_ws RX7 TX7 47
set_option maxRecDepth 100000 in
theorem nmX7 : ∀ a, a < 47 → ∀ b, b < 47 → a ≠ b → (TX7 a).2.1 ≠ (TX7 b).2.1 := by decide +kernel
set_option maxRecDepth 100000 in
theorem tyX7_ok : ∀ k, k < 47 → parseFieldDescriptor (TX7 k).2.2.1 = some (tyX7 k) := by decide +kernel
abbrev cX7_init : ByteArray := prog_21_method_1_code
def yX7_init : MethodName := ⟨RX7, "<init>", "()V"⟩
def dkwX7_init_11 : List UInt8 := [42, 180, 0, 7, 16, 24, 27, 96, 16, 254, 79, 132, 1, 1, 167, 255, 236, 177]
abbrev dktX7_init_11 : List UInt8 := dkwX7_init_11 ++ []
def dkwX7_init_10 : List UInt8 := [42, 16, 8, 188, 10, 181, 0, 94, 42, 180, 0, 7, 16, 111, 4, 79, 3, 60, 27, 16, 12, 162, 0, 20]
abbrev dktX7_init_10 : List UInt8 := dkwX7_init_10 ++ dktX7_init_11
def dkwX7_init_9 : List UInt8 := [42, 16, 12, 188, 10, 181, 0, 84, 42, 16, 6, 188, 10, 181, 0, 87, 42, 18, 90, 188, 10, 181, 0, 91]
abbrev dktX7_init_9 : List UInt8 := dkwX7_init_9 ++ dktX7_init_10
def dkwX7_init_8 : List UInt8 := [17, 0, 144, 188, 10, 181, 0, 74, 42, 18, 77, 188, 10, 181, 0, 78, 42, 16, 12, 188, 10, 181, 0, 81]
abbrev dktX7_init_8 : List UInt8 := dkwX7_init_8 ++ dktX7_init_9
def dkwX7_init_7 : List UInt8 := [188, 10, 181, 0, 65, 42, 16, 12, 188, 10, 181, 0, 68, 42, 17, 0, 144, 188, 10, 181, 0, 71, 42]
abbrev dktX7_init_7 : List UInt8 := dkwX7_init_7 ++ dktX7_init_8
def dkwX7_init_6 : List UInt8 := [181, 0, 56, 42, 16, 11, 188, 10, 181, 0, 59, 42, 16, 8, 188, 10, 181, 0, 62, 42, 17, 0, 144]
abbrev dktX7_init_6 : List UInt8 := dkwX7_init_6 ++ dktX7_init_7
def dkwX7_init_5 : List UInt8 := [42, 16, 16, 188, 10, 181, 0, 50, 42, 16, 16, 188, 10, 181, 0, 53, 42, 17, 1, 4, 188, 10]
abbrev dktX7_init_5 : List UInt8 := dkwX7_init_5 ++ dktX7_init_6
def dkwX7_init_4 : List UInt8 := [17, 1, 4, 188, 10, 181, 0, 41, 42, 16, 16, 188, 10, 181, 0, 44, 42, 16, 16, 188, 10, 181, 0, 47]
abbrev dktX7_init_4 : List UInt8 := dkwX7_init_4 ++ dktX7_init_5
def dkwX7_init_3 : List UInt8 := [188, 10, 181, 0, 32, 42, 16, 16, 188, 10, 181, 0, 35, 42, 16, 16, 188, 10, 181, 0, 38, 42]
abbrev dktX7_init_3 : List UInt8 := dkwX7_init_3 ++ dktX7_init_4
def dkwX7_init_2 : List UInt8 := [181, 0, 23, 42, 17, 1, 4, 188, 10, 181, 0, 26, 42, 16, 16, 188, 10, 181, 0, 29, 42, 16, 16]
abbrev dktX7_init_2 : List UInt8 := dkwX7_init_2 ++ dktX7_init_3
def dkwX7_init_1 : List UInt8 := [17, 7, 144, 188, 10, 181, 0, 16, 42, 17, 1, 4, 188, 8, 181, 0, 19, 42, 17, 1, 4, 188, 10]
abbrev dktX7_init_1 : List UInt8 := dkwX7_init_1 ++ dktX7_init_2
def dkwX7_init_0 : List UInt8 := [42, 183, 0, 1, 42, 17, 7, 144, 188, 10, 181, 0, 7, 42, 17, 7, 144, 188, 10, 181, 0, 13, 42]
abbrev dktX7_init_0 : List UInt8 := dkwX7_init_0 ++ dktX7_init_1
theorem dksX7_init_0 : cX7_init.data.toList.drop 0 = dktX7_init_0 := by decide +kernel
theorem dksX7_init_1 : cX7_init.data.toList.drop 23 = dktX7_init_1 := dk_seg dksX7_init_0 23 rfl rfl
theorem dksX7_init_2 : cX7_init.data.toList.drop 46 = dktX7_init_2 := dk_seg dksX7_init_1 23 rfl rfl
theorem dksX7_init_3 : cX7_init.data.toList.drop 69 = dktX7_init_3 := dk_seg dksX7_init_2 23 rfl rfl
theorem dksX7_init_4 : cX7_init.data.toList.drop 91 = dktX7_init_4 := dk_seg dksX7_init_3 22 rfl rfl
theorem dksX7_init_5 : cX7_init.data.toList.drop 115 = dktX7_init_5 := dk_seg dksX7_init_4 24 rfl rfl
theorem dksX7_init_6 : cX7_init.data.toList.drop 137 = dktX7_init_6 := dk_seg dksX7_init_5 22 rfl rfl
theorem dksX7_init_7 : cX7_init.data.toList.drop 160 = dktX7_init_7 := dk_seg dksX7_init_6 23 rfl rfl
theorem dksX7_init_8 : cX7_init.data.toList.drop 183 = dktX7_init_8 := dk_seg dksX7_init_7 23 rfl rfl
theorem dksX7_init_9 : cX7_init.data.toList.drop 207 = dktX7_init_9 := dk_seg dksX7_init_8 24 rfl rfl
theorem dksX7_init_10 : cX7_init.data.toList.drop 231 = dktX7_init_10 := dk_seg dksX7_init_9 24 rfl rfl
theorem dksX7_init_11 : cX7_init.data.toList.drop 255 = dktX7_init_11 := dk_seg dksX7_init_10 24 rfl rfl
theorem dX7_init_0 : decode cX7_init 0 = .ok (.aload_n 0, 1) := dk_42 (dk_at dksX7_init_0 0 rfl rfl)
theorem dX7_init_1 : decode cX7_init 1 = .ok (.invokespecial 1, 3) := dk_183 0 1 (dk_at dksX7_init_0 1 rfl rfl)
theorem dX7_init_4 : decode cX7_init 4 = .ok (.aload_n 0, 1) := dk_42 (dk_at dksX7_init_0 4 rfl rfl)
theorem dX7_init_5 : decode cX7_init 5 = .ok (.sipush 1936, 3) := dk_17 7 144 (dk_at dksX7_init_0 5 rfl rfl)
theorem dX7_init_8 : decode cX7_init 8 = .ok (.newarray .int, 2) := dk_188_10 (dk_at dksX7_init_0 8 rfl rfl)
theorem dX7_init_10 : decode cX7_init 10 = .ok (.putfield 7, 3) := dk_181 0 7 (dk_at dksX7_init_0 10 rfl rfl)
theorem dX7_init_13 : decode cX7_init 13 = .ok (.aload_n 0, 1) := dk_42 (dk_at dksX7_init_0 13 rfl rfl)
theorem dX7_init_14 : decode cX7_init 14 = .ok (.sipush 1936, 3) := dk_17 7 144 (dk_at dksX7_init_0 14 rfl rfl)
theorem dX7_init_17 : decode cX7_init 17 = .ok (.newarray .int, 2) := dk_188_10 (dk_at dksX7_init_0 17 rfl rfl)
theorem dX7_init_19 : decode cX7_init 19 = .ok (.putfield 13, 3) := dk_181 0 13 (dk_at dksX7_init_0 19 rfl rfl)
theorem dX7_init_22 : decode cX7_init 22 = .ok (.aload_n 0, 1) := dk_42 (dk_at dksX7_init_0 22 rfl rfl)
theorem dX7_init_23 : decode cX7_init 23 = .ok (.sipush 1936, 3) := dk_17 7 144 (dk_at dksX7_init_1 0 rfl rfl)
theorem dX7_init_26 : decode cX7_init 26 = .ok (.newarray .int, 2) := dk_188_10 (dk_at dksX7_init_1 3 rfl rfl)
theorem dX7_init_28 : decode cX7_init 28 = .ok (.putfield 16, 3) := dk_181 0 16 (dk_at dksX7_init_1 5 rfl rfl)
theorem dX7_init_31 : decode cX7_init 31 = .ok (.aload_n 0, 1) := dk_42 (dk_at dksX7_init_1 8 rfl rfl)
theorem dX7_init_32 : decode cX7_init 32 = .ok (.sipush 260, 3) := dk_17 1 4 (dk_at dksX7_init_1 9 rfl rfl)
theorem dX7_init_35 : decode cX7_init 35 = .ok (.newarray .byte, 2) := dk_188_8 (dk_at dksX7_init_1 12 rfl rfl)
theorem dX7_init_37 : decode cX7_init 37 = .ok (.putfield 19, 3) := dk_181 0 19 (dk_at dksX7_init_1 14 rfl rfl)
theorem dX7_init_40 : decode cX7_init 40 = .ok (.aload_n 0, 1) := dk_42 (dk_at dksX7_init_1 17 rfl rfl)
theorem dX7_init_41 : decode cX7_init 41 = .ok (.sipush 260, 3) := dk_17 1 4 (dk_at dksX7_init_1 18 rfl rfl)
theorem dX7_init_44 : decode cX7_init 44 = .ok (.newarray .int, 2) := dk_188_10 (dk_at dksX7_init_1 21 rfl rfl)
theorem dX7_init_46 : decode cX7_init 46 = .ok (.putfield 23, 3) := dk_181 0 23 (dk_at dksX7_init_2 0 rfl rfl)
theorem dX7_init_49 : decode cX7_init 49 = .ok (.aload_n 0, 1) := dk_42 (dk_at dksX7_init_2 3 rfl rfl)
theorem dX7_init_50 : decode cX7_init 50 = .ok (.sipush 260, 3) := dk_17 1 4 (dk_at dksX7_init_2 4 rfl rfl)
theorem dX7_init_53 : decode cX7_init 53 = .ok (.newarray .int, 2) := dk_188_10 (dk_at dksX7_init_2 7 rfl rfl)
theorem dX7_init_55 : decode cX7_init 55 = .ok (.putfield 26, 3) := dk_181 0 26 (dk_at dksX7_init_2 9 rfl rfl)
theorem dX7_init_58 : decode cX7_init 58 = .ok (.aload_n 0, 1) := dk_42 (dk_at dksX7_init_2 12 rfl rfl)
theorem dX7_init_59 : decode cX7_init 59 = .ok (.bipush 16, 2) := dk_16 16 (dk_at dksX7_init_2 13 rfl rfl)
theorem dX7_init_61 : decode cX7_init 61 = .ok (.newarray .int, 2) := dk_188_10 (dk_at dksX7_init_2 15 rfl rfl)
theorem dX7_init_63 : decode cX7_init 63 = .ok (.putfield 29, 3) := dk_181 0 29 (dk_at dksX7_init_2 17 rfl rfl)
theorem dX7_init_66 : decode cX7_init 66 = .ok (.aload_n 0, 1) := dk_42 (dk_at dksX7_init_2 20 rfl rfl)
theorem dX7_init_67 : decode cX7_init 67 = .ok (.bipush 16, 2) := dk_16 16 (dk_at dksX7_init_2 21 rfl rfl)
theorem dX7_init_69 : decode cX7_init 69 = .ok (.newarray .int, 2) := dk_188_10 (dk_at dksX7_init_3 0 rfl rfl)
theorem dX7_init_71 : decode cX7_init 71 = .ok (.putfield 32, 3) := dk_181 0 32 (dk_at dksX7_init_3 2 rfl rfl)
theorem dX7_init_74 : decode cX7_init 74 = .ok (.aload_n 0, 1) := dk_42 (dk_at dksX7_init_3 5 rfl rfl)
theorem dX7_init_75 : decode cX7_init 75 = .ok (.bipush 16, 2) := dk_16 16 (dk_at dksX7_init_3 6 rfl rfl)
theorem dX7_init_77 : decode cX7_init 77 = .ok (.newarray .int, 2) := dk_188_10 (dk_at dksX7_init_3 8 rfl rfl)
theorem dX7_init_79 : decode cX7_init 79 = .ok (.putfield 35, 3) := dk_181 0 35 (dk_at dksX7_init_3 10 rfl rfl)
theorem dX7_init_82 : decode cX7_init 82 = .ok (.aload_n 0, 1) := dk_42 (dk_at dksX7_init_3 13 rfl rfl)
theorem dX7_init_83 : decode cX7_init 83 = .ok (.bipush 16, 2) := dk_16 16 (dk_at dksX7_init_3 14 rfl rfl)
theorem dX7_init_85 : decode cX7_init 85 = .ok (.newarray .int, 2) := dk_188_10 (dk_at dksX7_init_3 16 rfl rfl)
theorem dX7_init_87 : decode cX7_init 87 = .ok (.putfield 38, 3) := dk_181 0 38 (dk_at dksX7_init_3 18 rfl rfl)
theorem dX7_init_90 : decode cX7_init 90 = .ok (.aload_n 0, 1) := dk_42 (dk_at dksX7_init_3 21 rfl rfl)
theorem dX7_init_91 : decode cX7_init 91 = .ok (.sipush 260, 3) := dk_17 1 4 (dk_at dksX7_init_4 0 rfl rfl)
theorem dX7_init_94 : decode cX7_init 94 = .ok (.newarray .int, 2) := dk_188_10 (dk_at dksX7_init_4 3 rfl rfl)
theorem dX7_init_96 : decode cX7_init 96 = .ok (.putfield 41, 3) := dk_181 0 41 (dk_at dksX7_init_4 5 rfl rfl)
theorem dX7_init_99 : decode cX7_init 99 = .ok (.aload_n 0, 1) := dk_42 (dk_at dksX7_init_4 8 rfl rfl)
theorem dX7_init_100 : decode cX7_init 100 = .ok (.bipush 16, 2) := dk_16 16 (dk_at dksX7_init_4 9 rfl rfl)
theorem dX7_init_102 : decode cX7_init 102 = .ok (.newarray .int, 2) := dk_188_10 (dk_at dksX7_init_4 11 rfl rfl)
theorem dX7_init_104 : decode cX7_init 104 = .ok (.putfield 44, 3) := dk_181 0 44 (dk_at dksX7_init_4 13 rfl rfl)
theorem dX7_init_107 : decode cX7_init 107 = .ok (.aload_n 0, 1) := dk_42 (dk_at dksX7_init_4 16 rfl rfl)
theorem dX7_init_108 : decode cX7_init 108 = .ok (.bipush 16, 2) := dk_16 16 (dk_at dksX7_init_4 17 rfl rfl)
theorem dX7_init_110 : decode cX7_init 110 = .ok (.newarray .int, 2) := dk_188_10 (dk_at dksX7_init_4 19 rfl rfl)
theorem dX7_init_112 : decode cX7_init 112 = .ok (.putfield 47, 3) := dk_181 0 47 (dk_at dksX7_init_4 21 rfl rfl)
theorem dX7_init_115 : decode cX7_init 115 = .ok (.aload_n 0, 1) := dk_42 (dk_at dksX7_init_5 0 rfl rfl)
theorem dX7_init_116 : decode cX7_init 116 = .ok (.bipush 16, 2) := dk_16 16 (dk_at dksX7_init_5 1 rfl rfl)
theorem dX7_init_118 : decode cX7_init 118 = .ok (.newarray .int, 2) := dk_188_10 (dk_at dksX7_init_5 3 rfl rfl)
theorem dX7_init_120 : decode cX7_init 120 = .ok (.putfield 50, 3) := dk_181 0 50 (dk_at dksX7_init_5 5 rfl rfl)
theorem dX7_init_123 : decode cX7_init 123 = .ok (.aload_n 0, 1) := dk_42 (dk_at dksX7_init_5 8 rfl rfl)
theorem dX7_init_124 : decode cX7_init 124 = .ok (.bipush 16, 2) := dk_16 16 (dk_at dksX7_init_5 9 rfl rfl)
theorem dX7_init_126 : decode cX7_init 126 = .ok (.newarray .int, 2) := dk_188_10 (dk_at dksX7_init_5 11 rfl rfl)
theorem dX7_init_128 : decode cX7_init 128 = .ok (.putfield 53, 3) := dk_181 0 53 (dk_at dksX7_init_5 13 rfl rfl)
theorem dX7_init_131 : decode cX7_init 131 = .ok (.aload_n 0, 1) := dk_42 (dk_at dksX7_init_5 16 rfl rfl)
theorem dX7_init_132 : decode cX7_init 132 = .ok (.sipush 260, 3) := dk_17 1 4 (dk_at dksX7_init_5 17 rfl rfl)
theorem dX7_init_135 : decode cX7_init 135 = .ok (.newarray .int, 2) := dk_188_10 (dk_at dksX7_init_5 20 rfl rfl)
theorem dX7_init_137 : decode cX7_init 137 = .ok (.putfield 56, 3) := dk_181 0 56 (dk_at dksX7_init_6 0 rfl rfl)
theorem dX7_init_140 : decode cX7_init 140 = .ok (.aload_n 0, 1) := dk_42 (dk_at dksX7_init_6 3 rfl rfl)
theorem dX7_init_141 : decode cX7_init 141 = .ok (.bipush 11, 2) := dk_16 11 (dk_at dksX7_init_6 4 rfl rfl)
theorem dX7_init_143 : decode cX7_init 143 = .ok (.newarray .int, 2) := dk_188_10 (dk_at dksX7_init_6 6 rfl rfl)
theorem dX7_init_145 : decode cX7_init 145 = .ok (.putfield 59, 3) := dk_181 0 59 (dk_at dksX7_init_6 8 rfl rfl)
theorem dX7_init_148 : decode cX7_init 148 = .ok (.aload_n 0, 1) := dk_42 (dk_at dksX7_init_6 11 rfl rfl)
theorem dX7_init_149 : decode cX7_init 149 = .ok (.bipush 8, 2) := dk_16 8 (dk_at dksX7_init_6 12 rfl rfl)
theorem dX7_init_151 : decode cX7_init 151 = .ok (.newarray .int, 2) := dk_188_10 (dk_at dksX7_init_6 14 rfl rfl)
theorem dX7_init_153 : decode cX7_init 153 = .ok (.putfield 62, 3) := dk_181 0 62 (dk_at dksX7_init_6 16 rfl rfl)
theorem dX7_init_156 : decode cX7_init 156 = .ok (.aload_n 0, 1) := dk_42 (dk_at dksX7_init_6 19 rfl rfl)
theorem dX7_init_157 : decode cX7_init 157 = .ok (.sipush 144, 3) := dk_17 0 144 (dk_at dksX7_init_6 20 rfl rfl)
theorem dX7_init_160 : decode cX7_init 160 = .ok (.newarray .int, 2) := dk_188_10 (dk_at dksX7_init_7 0 rfl rfl)
theorem dX7_init_162 : decode cX7_init 162 = .ok (.putfield 65, 3) := dk_181 0 65 (dk_at dksX7_init_7 2 rfl rfl)
theorem dX7_init_165 : decode cX7_init 165 = .ok (.aload_n 0, 1) := dk_42 (dk_at dksX7_init_7 5 rfl rfl)
theorem dX7_init_166 : decode cX7_init 166 = .ok (.bipush 12, 2) := dk_16 12 (dk_at dksX7_init_7 6 rfl rfl)
theorem dX7_init_168 : decode cX7_init 168 = .ok (.newarray .int, 2) := dk_188_10 (dk_at dksX7_init_7 8 rfl rfl)
theorem dX7_init_170 : decode cX7_init 170 = .ok (.putfield 68, 3) := dk_181 0 68 (dk_at dksX7_init_7 10 rfl rfl)
theorem dX7_init_173 : decode cX7_init 173 = .ok (.aload_n 0, 1) := dk_42 (dk_at dksX7_init_7 13 rfl rfl)
theorem dX7_init_174 : decode cX7_init 174 = .ok (.sipush 144, 3) := dk_17 0 144 (dk_at dksX7_init_7 14 rfl rfl)
theorem dX7_init_177 : decode cX7_init 177 = .ok (.newarray .int, 2) := dk_188_10 (dk_at dksX7_init_7 17 rfl rfl)
theorem dX7_init_179 : decode cX7_init 179 = .ok (.putfield 71, 3) := dk_181 0 71 (dk_at dksX7_init_7 19 rfl rfl)
theorem dX7_init_182 : decode cX7_init 182 = .ok (.aload_n 0, 1) := dk_42 (dk_at dksX7_init_7 22 rfl rfl)
theorem dX7_init_183 : decode cX7_init 183 = .ok (.sipush 144, 3) := dk_17 0 144 (dk_at dksX7_init_8 0 rfl rfl)
theorem dX7_init_186 : decode cX7_init 186 = .ok (.newarray .int, 2) := dk_188_10 (dk_at dksX7_init_8 3 rfl rfl)
theorem dX7_init_188 : decode cX7_init 188 = .ok (.putfield 74, 3) := dk_181 0 74 (dk_at dksX7_init_8 5 rfl rfl)
theorem dX7_init_191 : decode cX7_init 191 = .ok (.aload_n 0, 1) := dk_42 (dk_at dksX7_init_8 8 rfl rfl)
theorem dX7_init_192 : decode cX7_init 192 = .ok (.ldc 77, 2) := dk_18 77 (dk_at dksX7_init_8 9 rfl rfl)
theorem dX7_init_194 : decode cX7_init 194 = .ok (.newarray .int, 2) := dk_188_10 (dk_at dksX7_init_8 11 rfl rfl)
theorem dX7_init_196 : decode cX7_init 196 = .ok (.putfield 78, 3) := dk_181 0 78 (dk_at dksX7_init_8 13 rfl rfl)
theorem dX7_init_199 : decode cX7_init 199 = .ok (.aload_n 0, 1) := dk_42 (dk_at dksX7_init_8 16 rfl rfl)
theorem dX7_init_200 : decode cX7_init 200 = .ok (.bipush 12, 2) := dk_16 12 (dk_at dksX7_init_8 17 rfl rfl)
theorem dX7_init_202 : decode cX7_init 202 = .ok (.newarray .int, 2) := dk_188_10 (dk_at dksX7_init_8 19 rfl rfl)
theorem dX7_init_204 : decode cX7_init 204 = .ok (.putfield 81, 3) := dk_181 0 81 (dk_at dksX7_init_8 21 rfl rfl)
theorem dX7_init_207 : decode cX7_init 207 = .ok (.aload_n 0, 1) := dk_42 (dk_at dksX7_init_9 0 rfl rfl)
theorem dX7_init_208 : decode cX7_init 208 = .ok (.bipush 12, 2) := dk_16 12 (dk_at dksX7_init_9 1 rfl rfl)
theorem dX7_init_210 : decode cX7_init 210 = .ok (.newarray .int, 2) := dk_188_10 (dk_at dksX7_init_9 3 rfl rfl)
theorem dX7_init_212 : decode cX7_init 212 = .ok (.putfield 84, 3) := dk_181 0 84 (dk_at dksX7_init_9 5 rfl rfl)
theorem dX7_init_215 : decode cX7_init 215 = .ok (.aload_n 0, 1) := dk_42 (dk_at dksX7_init_9 8 rfl rfl)
theorem dX7_init_216 : decode cX7_init 216 = .ok (.bipush 6, 2) := dk_16 6 (dk_at dksX7_init_9 9 rfl rfl)
theorem dX7_init_218 : decode cX7_init 218 = .ok (.newarray .int, 2) := dk_188_10 (dk_at dksX7_init_9 11 rfl rfl)
theorem dX7_init_220 : decode cX7_init 220 = .ok (.putfield 87, 3) := dk_181 0 87 (dk_at dksX7_init_9 13 rfl rfl)
theorem dX7_init_223 : decode cX7_init 223 = .ok (.aload_n 0, 1) := dk_42 (dk_at dksX7_init_9 16 rfl rfl)
theorem dX7_init_224 : decode cX7_init 224 = .ok (.ldc 90, 2) := dk_18 90 (dk_at dksX7_init_9 17 rfl rfl)
theorem dX7_init_226 : decode cX7_init 226 = .ok (.newarray .int, 2) := dk_188_10 (dk_at dksX7_init_9 19 rfl rfl)
theorem dX7_init_228 : decode cX7_init 228 = .ok (.putfield 91, 3) := dk_181 0 91 (dk_at dksX7_init_9 21 rfl rfl)
theorem dX7_init_231 : decode cX7_init 231 = .ok (.aload_n 0, 1) := dk_42 (dk_at dksX7_init_10 0 rfl rfl)
theorem dX7_init_232 : decode cX7_init 232 = .ok (.bipush 8, 2) := dk_16 8 (dk_at dksX7_init_10 1 rfl rfl)
theorem dX7_init_234 : decode cX7_init 234 = .ok (.newarray .int, 2) := dk_188_10 (dk_at dksX7_init_10 3 rfl rfl)
theorem dX7_init_236 : decode cX7_init 236 = .ok (.putfield 94, 3) := dk_181 0 94 (dk_at dksX7_init_10 5 rfl rfl)
theorem dX7_init_239 : decode cX7_init 239 = .ok (.aload_n 0, 1) := dk_42 (dk_at dksX7_init_10 8 rfl rfl)
theorem dX7_init_240 : decode cX7_init 240 = .ok (.getfield 7, 3) := dk_180 0 7 (dk_at dksX7_init_10 9 rfl rfl)
theorem dX7_init_243 : decode cX7_init 243 = .ok (.bipush 111, 2) := dk_16 111 (dk_at dksX7_init_10 12 rfl rfl)
theorem dX7_init_245 : decode cX7_init 245 = .ok (.iconst 1, 1) := dk_4 (dk_at dksX7_init_10 14 rfl rfl)
theorem dX7_init_246 : decode cX7_init 246 = .ok (.iastore, 1) := dk_79 (dk_at dksX7_init_10 15 rfl rfl)
theorem dX7_init_247 : decode cX7_init 247 = .ok (.iconst 0, 1) := dk_3 (dk_at dksX7_init_10 16 rfl rfl)
theorem dX7_init_248 : decode cX7_init 248 = .ok (.istore_n 1, 1) := dk_60 (dk_at dksX7_init_10 17 rfl rfl)
theorem dX7_init_249 : decode cX7_init 249 = .ok (.iload_n 1, 1) := dk_27 (dk_at dksX7_init_10 18 rfl rfl)
theorem dX7_init_250 : decode cX7_init 250 = .ok (.bipush 12, 2) := dk_16 12 (dk_at dksX7_init_10 19 rfl rfl)
theorem dX7_init_252 : decode cX7_init 252 = .ok (.if_icmp .ge 20, 3) := dk_162 0 20 (dk_at dksX7_init_10 21 rfl rfl)
theorem dX7_init_255 : decode cX7_init 255 = .ok (.aload_n 0, 1) := dk_42 (dk_at dksX7_init_11 0 rfl rfl)
theorem dX7_init_256 : decode cX7_init 256 = .ok (.getfield 7, 3) := dk_180 0 7 (dk_at dksX7_init_11 1 rfl rfl)
theorem dX7_init_259 : decode cX7_init 259 = .ok (.bipush 24, 2) := dk_16 24 (dk_at dksX7_init_11 4 rfl rfl)
theorem dX7_init_261 : decode cX7_init 261 = .ok (.iload_n 1, 1) := dk_27 (dk_at dksX7_init_11 6 rfl rfl)
theorem dX7_init_262 : decode cX7_init 262 = .ok (.iadd, 1) := dk_96 (dk_at dksX7_init_11 7 rfl rfl)
theorem dX7_init_263 : decode cX7_init 263 = .ok (.bipush (-2), 2) := dk_16 254 (dk_at dksX7_init_11 8 rfl rfl)
theorem dX7_init_265 : decode cX7_init 265 = .ok (.iastore, 1) := dk_79 (dk_at dksX7_init_11 10 rfl rfl)
theorem dX7_init_266 : decode cX7_init 266 = .ok (.iinc 1 1, 3) := dk_132 1 1 (dk_at dksX7_init_11 11 rfl rfl)
theorem dX7_init_269 : decode cX7_init 269 = .ok (.goto (-20), 3) := dk_167 255 236 (dk_at dksX7_init_11 14 rfl rfl)
theorem dX7_init_272 : decode cX7_init 272 = .ok (.return_, 1) := dk_177 (dk_at dksX7_init_11 17 rfl rfl)
abbrev cX7_person : ByteArray := prog_21_method_13_code
def yX7_person : MethodName := ⟨RX7, "person", "(III)Z"⟩
def dkwX7_person_4 : List UInt8 := [27, 96, 4, 27, 120, 79, 4, 172]
abbrev dktX7_person_4 : List UInt8 := dkwX7_person_4 ++ []
def dkwX7_person_3 : List UInt8 := [180, 0, 7, 3, 27, 96, 28, 79, 42, 180, 0, 7, 16, 12, 27, 96, 29, 79, 42, 180, 0, 7, 16, 48]
abbrev dktX7_person_3 : List UInt8 := dkwX7_person_3 ++ dktX7_person_4
def dkwX7_person_2 : List UInt8 := [4, 27, 120, 128, 79, 42, 180, 0, 7, 16, 109, 42, 180, 0, 7, 16, 109, 46, 4, 27, 120, 128, 79, 42]
abbrev dktX7_person_2 : List UInt8 := dkwX7_person_2 ++ dktX7_person_3
def dkwX7_person_1 : List UInt8 := [29, 3, 8, 184, 0, 111, 154, 0, 5, 3, 172, 42, 180, 0, 7, 16, 108, 42, 180, 0, 7, 16, 108, 46]
abbrev dktX7_person_1 : List UInt8 := dkwX7_person_1 ++ dktX7_person_2
def dkwX7_person_0 : List UInt8 := [27, 184, 0, 97, 153, 0, 29, 42, 27, 182, 0, 105, 154, 0, 21, 28, 3, 4, 184, 0, 111, 153, 0, 12]
abbrev dktX7_person_0 : List UInt8 := dkwX7_person_0 ++ dktX7_person_1
theorem dksX7_person_0 : cX7_person.data.toList.drop 0 = dktX7_person_0 := by decide +kernel
theorem dksX7_person_1 : cX7_person.data.toList.drop 24 = dktX7_person_1 := dk_seg dksX7_person_0 24 rfl rfl
theorem dksX7_person_2 : cX7_person.data.toList.drop 48 = dktX7_person_2 := dk_seg dksX7_person_1 24 rfl rfl
theorem dksX7_person_3 : cX7_person.data.toList.drop 72 = dktX7_person_3 := dk_seg dksX7_person_2 24 rfl rfl
theorem dksX7_person_4 : cX7_person.data.toList.drop 96 = dktX7_person_4 := dk_seg dksX7_person_3 24 rfl rfl
theorem dX7_person_0 : decode cX7_person 0 = .ok (.iload_n 1, 1) := dk_27 (dk_at dksX7_person_0 0 rfl rfl)
theorem dX7_person_1 : decode cX7_person 1 = .ok (.invokestatic 97, 3) := dk_184 0 97 (dk_at dksX7_person_0 1 rfl rfl)
theorem dX7_person_4 : decode cX7_person 4 = .ok (.ifCond .eq 29, 3) := dk_153 0 29 (dk_at dksX7_person_0 4 rfl rfl)
theorem dX7_person_7 : decode cX7_person 7 = .ok (.aload_n 0, 1) := dk_42 (dk_at dksX7_person_0 7 rfl rfl)
theorem dX7_person_8 : decode cX7_person 8 = .ok (.iload_n 1, 1) := dk_27 (dk_at dksX7_person_0 8 rfl rfl)
theorem dX7_person_9 : decode cX7_person 9 = .ok (.invokevirtual 105, 3) := dk_182 0 105 (dk_at dksX7_person_0 9 rfl rfl)
theorem dX7_person_12 : decode cX7_person 12 = .ok (.ifCond .ne 21, 3) := dk_154 0 21 (dk_at dksX7_person_0 12 rfl rfl)
theorem dX7_person_15 : decode cX7_person 15 = .ok (.iload_n 2, 1) := dk_28 (dk_at dksX7_person_0 15 rfl rfl)
theorem dX7_person_16 : decode cX7_person 16 = .ok (.iconst 0, 1) := dk_3 (dk_at dksX7_person_0 16 rfl rfl)
theorem dX7_person_17 : decode cX7_person 17 = .ok (.iconst 1, 1) := dk_4 (dk_at dksX7_person_0 17 rfl rfl)
theorem dX7_person_18 : decode cX7_person 18 = .ok (.invokestatic 111, 3) := dk_184 0 111 (dk_at dksX7_person_0 18 rfl rfl)
theorem dX7_person_21 : decode cX7_person 21 = .ok (.ifCond .eq 12, 3) := dk_153 0 12 (dk_at dksX7_person_0 21 rfl rfl)
theorem dX7_person_24 : decode cX7_person 24 = .ok (.iload_n 3, 1) := dk_29 (dk_at dksX7_person_1 0 rfl rfl)
theorem dX7_person_25 : decode cX7_person 25 = .ok (.iconst 0, 1) := dk_3 (dk_at dksX7_person_1 1 rfl rfl)
theorem dX7_person_26 : decode cX7_person 26 = .ok (.iconst 5, 1) := dk_8 (dk_at dksX7_person_1 2 rfl rfl)
theorem dX7_person_27 : decode cX7_person 27 = .ok (.invokestatic 111, 3) := dk_184 0 111 (dk_at dksX7_person_1 3 rfl rfl)
theorem dX7_person_30 : decode cX7_person 30 = .ok (.ifCond .ne 5, 3) := dk_154 0 5 (dk_at dksX7_person_1 6 rfl rfl)
theorem dX7_person_33 : decode cX7_person 33 = .ok (.iconst 0, 1) := dk_3 (dk_at dksX7_person_1 9 rfl rfl)
theorem dX7_person_34 : decode cX7_person 34 = .ok (.ireturn, 1) := dk_172 (dk_at dksX7_person_1 10 rfl rfl)
theorem dX7_person_35 : decode cX7_person 35 = .ok (.aload_n 0, 1) := dk_42 (dk_at dksX7_person_1 11 rfl rfl)
theorem dX7_person_36 : decode cX7_person 36 = .ok (.getfield 7, 3) := dk_180 0 7 (dk_at dksX7_person_1 12 rfl rfl)
theorem dX7_person_39 : decode cX7_person 39 = .ok (.bipush 108, 2) := dk_16 108 (dk_at dksX7_person_1 15 rfl rfl)
theorem dX7_person_41 : decode cX7_person 41 = .ok (.aload_n 0, 1) := dk_42 (dk_at dksX7_person_1 17 rfl rfl)
theorem dX7_person_42 : decode cX7_person 42 = .ok (.getfield 7, 3) := dk_180 0 7 (dk_at dksX7_person_1 18 rfl rfl)
theorem dX7_person_45 : decode cX7_person 45 = .ok (.bipush 108, 2) := dk_16 108 (dk_at dksX7_person_1 21 rfl rfl)
theorem dX7_person_47 : decode cX7_person 47 = .ok (.iaload, 1) := dk_46 (dk_at dksX7_person_1 23 rfl rfl)
theorem dX7_person_48 : decode cX7_person 48 = .ok (.iconst 1, 1) := dk_4 (dk_at dksX7_person_2 0 rfl rfl)
theorem dX7_person_49 : decode cX7_person 49 = .ok (.iload_n 1, 1) := dk_27 (dk_at dksX7_person_2 1 rfl rfl)
theorem dX7_person_50 : decode cX7_person 50 = .ok (.ishl, 1) := dk_120 (dk_at dksX7_person_2 2 rfl rfl)
theorem dX7_person_51 : decode cX7_person 51 = .ok (.ior, 1) := dk_128 (dk_at dksX7_person_2 3 rfl rfl)
theorem dX7_person_52 : decode cX7_person 52 = .ok (.iastore, 1) := dk_79 (dk_at dksX7_person_2 4 rfl rfl)
theorem dX7_person_53 : decode cX7_person 53 = .ok (.aload_n 0, 1) := dk_42 (dk_at dksX7_person_2 5 rfl rfl)
theorem dX7_person_54 : decode cX7_person 54 = .ok (.getfield 7, 3) := dk_180 0 7 (dk_at dksX7_person_2 6 rfl rfl)
theorem dX7_person_57 : decode cX7_person 57 = .ok (.bipush 109, 2) := dk_16 109 (dk_at dksX7_person_2 9 rfl rfl)
theorem dX7_person_59 : decode cX7_person 59 = .ok (.aload_n 0, 1) := dk_42 (dk_at dksX7_person_2 11 rfl rfl)
theorem dX7_person_60 : decode cX7_person 60 = .ok (.getfield 7, 3) := dk_180 0 7 (dk_at dksX7_person_2 12 rfl rfl)
theorem dX7_person_63 : decode cX7_person 63 = .ok (.bipush 109, 2) := dk_16 109 (dk_at dksX7_person_2 15 rfl rfl)
theorem dX7_person_65 : decode cX7_person 65 = .ok (.iaload, 1) := dk_46 (dk_at dksX7_person_2 17 rfl rfl)
theorem dX7_person_66 : decode cX7_person 66 = .ok (.iconst 1, 1) := dk_4 (dk_at dksX7_person_2 18 rfl rfl)
theorem dX7_person_67 : decode cX7_person 67 = .ok (.iload_n 1, 1) := dk_27 (dk_at dksX7_person_2 19 rfl rfl)
theorem dX7_person_68 : decode cX7_person 68 = .ok (.ishl, 1) := dk_120 (dk_at dksX7_person_2 20 rfl rfl)
theorem dX7_person_69 : decode cX7_person 69 = .ok (.ior, 1) := dk_128 (dk_at dksX7_person_2 21 rfl rfl)
theorem dX7_person_70 : decode cX7_person 70 = .ok (.iastore, 1) := dk_79 (dk_at dksX7_person_2 22 rfl rfl)
theorem dX7_person_71 : decode cX7_person 71 = .ok (.aload_n 0, 1) := dk_42 (dk_at dksX7_person_2 23 rfl rfl)
theorem dX7_person_72 : decode cX7_person 72 = .ok (.getfield 7, 3) := dk_180 0 7 (dk_at dksX7_person_3 0 rfl rfl)
theorem dX7_person_75 : decode cX7_person 75 = .ok (.iconst 0, 1) := dk_3 (dk_at dksX7_person_3 3 rfl rfl)
theorem dX7_person_76 : decode cX7_person 76 = .ok (.iload_n 1, 1) := dk_27 (dk_at dksX7_person_3 4 rfl rfl)
theorem dX7_person_77 : decode cX7_person 77 = .ok (.iadd, 1) := dk_96 (dk_at dksX7_person_3 5 rfl rfl)
theorem dX7_person_78 : decode cX7_person 78 = .ok (.iload_n 2, 1) := dk_28 (dk_at dksX7_person_3 6 rfl rfl)
theorem dX7_person_79 : decode cX7_person 79 = .ok (.iastore, 1) := dk_79 (dk_at dksX7_person_3 7 rfl rfl)
theorem dX7_person_80 : decode cX7_person 80 = .ok (.aload_n 0, 1) := dk_42 (dk_at dksX7_person_3 8 rfl rfl)
theorem dX7_person_81 : decode cX7_person 81 = .ok (.getfield 7, 3) := dk_180 0 7 (dk_at dksX7_person_3 9 rfl rfl)
theorem dX7_person_84 : decode cX7_person 84 = .ok (.bipush 12, 2) := dk_16 12 (dk_at dksX7_person_3 12 rfl rfl)
theorem dX7_person_86 : decode cX7_person 86 = .ok (.iload_n 1, 1) := dk_27 (dk_at dksX7_person_3 14 rfl rfl)
theorem dX7_person_87 : decode cX7_person 87 = .ok (.iadd, 1) := dk_96 (dk_at dksX7_person_3 15 rfl rfl)
theorem dX7_person_88 : decode cX7_person 88 = .ok (.iload_n 3, 1) := dk_29 (dk_at dksX7_person_3 16 rfl rfl)
theorem dX7_person_89 : decode cX7_person 89 = .ok (.iastore, 1) := dk_79 (dk_at dksX7_person_3 17 rfl rfl)
theorem dX7_person_90 : decode cX7_person 90 = .ok (.aload_n 0, 1) := dk_42 (dk_at dksX7_person_3 18 rfl rfl)
theorem dX7_person_91 : decode cX7_person 91 = .ok (.getfield 7, 3) := dk_180 0 7 (dk_at dksX7_person_3 19 rfl rfl)
theorem dX7_person_94 : decode cX7_person 94 = .ok (.bipush 48, 2) := dk_16 48 (dk_at dksX7_person_3 22 rfl rfl)
theorem dX7_person_96 : decode cX7_person 96 = .ok (.iload_n 1, 1) := dk_27 (dk_at dksX7_person_4 0 rfl rfl)
theorem dX7_person_97 : decode cX7_person 97 = .ok (.iadd, 1) := dk_96 (dk_at dksX7_person_4 1 rfl rfl)
theorem dX7_person_98 : decode cX7_person 98 = .ok (.iconst 1, 1) := dk_4 (dk_at dksX7_person_4 2 rfl rfl)
theorem dX7_person_99 : decode cX7_person 99 = .ok (.iload_n 1, 1) := dk_27 (dk_at dksX7_person_4 3 rfl rfl)
theorem dX7_person_100 : decode cX7_person 100 = .ok (.ishl, 1) := dk_120 (dk_at dksX7_person_4 4 rfl rfl)
theorem dX7_person_101 : decode cX7_person 101 = .ok (.iastore, 1) := dk_79 (dk_at dksX7_person_4 5 rfl rfl)
theorem dX7_person_102 : decode cX7_person 102 = .ok (.iconst 1, 1) := dk_4 (dk_at dksX7_person_4 6 rfl rfl)
theorem dX7_person_103 : decode cX7_person 103 = .ok (.ireturn, 1) := dk_172 (dk_at dksX7_person_4 7 rfl rfl)
abbrev cX7_isTwelve : ByteArray := prog_21_method_9_code
def yX7_isTwelve : MethodName := ⟨RX7, "isTwelve", "(I)Z"⟩
def dkwX7_isTwelve_0 : List UInt8 := [26, 155, 0, 13, 26, 16, 12, 162, 0, 7, 4, 167, 0, 4, 3, 172]
abbrev dktX7_isTwelve_0 : List UInt8 := dkwX7_isTwelve_0 ++ []
theorem dksX7_isTwelve_0 : cX7_isTwelve.data.toList.drop 0 = dktX7_isTwelve_0 := by decide +kernel
theorem dX7_isTwelve_0 : decode cX7_isTwelve 0 = .ok (.iload_n 0, 1) := dk_26 (dk_at dksX7_isTwelve_0 0 rfl rfl)
theorem dX7_isTwelve_1 : decode cX7_isTwelve 1 = .ok (.ifCond .lt 13, 3) := dk_155 0 13 (dk_at dksX7_isTwelve_0 1 rfl rfl)
theorem dX7_isTwelve_4 : decode cX7_isTwelve 4 = .ok (.iload_n 0, 1) := dk_26 (dk_at dksX7_isTwelve_0 4 rfl rfl)
theorem dX7_isTwelve_5 : decode cX7_isTwelve 5 = .ok (.bipush 12, 2) := dk_16 12 (dk_at dksX7_isTwelve_0 5 rfl rfl)
theorem dX7_isTwelve_7 : decode cX7_isTwelve 7 = .ok (.if_icmp .ge 7, 3) := dk_162 0 7 (dk_at dksX7_isTwelve_0 7 rfl rfl)
theorem dX7_isTwelve_10 : decode cX7_isTwelve 10 = .ok (.iconst 1, 1) := dk_4 (dk_at dksX7_isTwelve_0 10 rfl rfl)
theorem dX7_isTwelve_11 : decode cX7_isTwelve 11 = .ok (.goto 4, 3) := dk_167 0 4 (dk_at dksX7_isTwelve_0 11 rfl rfl)
theorem dX7_isTwelve_14 : decode cX7_isTwelve 14 = .ok (.iconst 0, 1) := dk_3 (dk_at dksX7_isTwelve_0 14 rfl rfl)
theorem dX7_isTwelve_15 : decode cX7_isTwelve 15 = .ok (.ireturn, 1) := dk_172 (dk_at dksX7_isTwelve_0 15 rfl rfl)
abbrev cX7_isPerson : ByteArray := prog_21_method_10_code
def yX7_isPerson : MethodName := ⟨RX7, "isPerson", "(I)Z"⟩
def dkwX7_isPerson_1 : List UInt8 := [167, 0, 4, 3, 172]
abbrev dktX7_isPerson_1 : List UInt8 := dkwX7_isPerson_1 ++ []
def dkwX7_isPerson_0 : List UInt8 := [27, 184, 0, 97, 153, 0, 21, 42, 180, 0, 7, 16, 108, 46, 27, 184, 0, 101, 153, 0, 7, 4]
abbrev dktX7_isPerson_0 : List UInt8 := dkwX7_isPerson_0 ++ dktX7_isPerson_1
theorem dksX7_isPerson_0 : cX7_isPerson.data.toList.drop 0 = dktX7_isPerson_0 := by decide +kernel
theorem dksX7_isPerson_1 : cX7_isPerson.data.toList.drop 22 = dktX7_isPerson_1 := dk_seg dksX7_isPerson_0 22 rfl rfl
theorem dX7_isPerson_0 : decode cX7_isPerson 0 = .ok (.iload_n 1, 1) := dk_27 (dk_at dksX7_isPerson_0 0 rfl rfl)
theorem dX7_isPerson_1 : decode cX7_isPerson 1 = .ok (.invokestatic 97, 3) := dk_184 0 97 (dk_at dksX7_isPerson_0 1 rfl rfl)
theorem dX7_isPerson_4 : decode cX7_isPerson 4 = .ok (.ifCond .eq 21, 3) := dk_153 0 21 (dk_at dksX7_isPerson_0 4 rfl rfl)
theorem dX7_isPerson_7 : decode cX7_isPerson 7 = .ok (.aload_n 0, 1) := dk_42 (dk_at dksX7_isPerson_0 7 rfl rfl)
theorem dX7_isPerson_8 : decode cX7_isPerson 8 = .ok (.getfield 7, 3) := dk_180 0 7 (dk_at dksX7_isPerson_0 8 rfl rfl)
theorem dX7_isPerson_11 : decode cX7_isPerson 11 = .ok (.bipush 108, 2) := dk_16 108 (dk_at dksX7_isPerson_0 11 rfl rfl)
theorem dX7_isPerson_13 : decode cX7_isPerson 13 = .ok (.iaload, 1) := dk_46 (dk_at dksX7_isPerson_0 13 rfl rfl)
theorem dX7_isPerson_14 : decode cX7_isPerson 14 = .ok (.iload_n 1, 1) := dk_27 (dk_at dksX7_isPerson_0 14 rfl rfl)
theorem dX7_isPerson_15 : decode cX7_isPerson 15 = .ok (.invokestatic 101, 3) := dk_184 0 101 (dk_at dksX7_isPerson_0 15 rfl rfl)
theorem dX7_isPerson_18 : decode cX7_isPerson 18 = .ok (.ifCond .eq 7, 3) := dk_153 0 7 (dk_at dksX7_isPerson_0 18 rfl rfl)
theorem dX7_isPerson_21 : decode cX7_isPerson 21 = .ok (.iconst 1, 1) := dk_4 (dk_at dksX7_isPerson_0 21 rfl rfl)
theorem dX7_isPerson_22 : decode cX7_isPerson 22 = .ok (.goto 4, 3) := dk_167 0 4 (dk_at dksX7_isPerson_1 0 rfl rfl)
theorem dX7_isPerson_25 : decode cX7_isPerson 25 = .ok (.iconst 0, 1) := dk_3 (dk_at dksX7_isPerson_1 3 rfl rfl)
theorem dX7_isPerson_26 : decode cX7_isPerson 26 = .ok (.ireturn, 1) := dk_172 (dk_at dksX7_isPerson_1 4 rfl rfl)
abbrev cX7_has : ByteArray := prog_21_method_6_code
def yX7_has : MethodName := ⟨RX7, "has", "(II)Z"⟩
def dkwX7_has_0 : List UInt8 := [26, 27, 122, 4, 126, 4, 160, 0, 7, 4, 167, 0, 4, 3, 172]
abbrev dktX7_has_0 : List UInt8 := dkwX7_has_0 ++ []
theorem dksX7_has_0 : cX7_has.data.toList.drop 0 = dktX7_has_0 := by decide +kernel
theorem dX7_has_0 : decode cX7_has 0 = .ok (.iload_n 0, 1) := dk_26 (dk_at dksX7_has_0 0 rfl rfl)
theorem dX7_has_1 : decode cX7_has 1 = .ok (.iload_n 1, 1) := dk_27 (dk_at dksX7_has_0 1 rfl rfl)
theorem dX7_has_2 : decode cX7_has 2 = .ok (.ishr, 1) := dk_122 (dk_at dksX7_has_0 2 rfl rfl)
theorem dX7_has_3 : decode cX7_has 3 = .ok (.iconst 1, 1) := dk_4 (dk_at dksX7_has_0 3 rfl rfl)
theorem dX7_has_4 : decode cX7_has 4 = .ok (.iand, 1) := dk_126 (dk_at dksX7_has_0 4 rfl rfl)
theorem dX7_has_5 : decode cX7_has 5 = .ok (.iconst 1, 1) := dk_4 (dk_at dksX7_has_0 5 rfl rfl)
theorem dX7_has_6 : decode cX7_has 6 = .ok (.if_icmp .ne 7, 3) := dk_160 0 7 (dk_at dksX7_has_0 6 rfl rfl)
theorem dX7_has_9 : decode cX7_has 9 = .ok (.iconst 1, 1) := dk_4 (dk_at dksX7_has_0 9 rfl rfl)
theorem dX7_has_10 : decode cX7_has 10 = .ok (.goto 4, 3) := dk_167 0 4 (dk_at dksX7_has_0 10 rfl rfl)
theorem dX7_has_13 : decode cX7_has 13 = .ok (.iconst 0, 1) := dk_3 (dk_at dksX7_has_0 13 rfl rfl)
theorem dX7_has_14 : decode cX7_has 14 = .ok (.ireturn, 1) := dk_172 (dk_at dksX7_has_0 14 rfl rfl)
abbrev cX7_in : ByteArray := prog_21_method_2_code
def yX7_in : MethodName := ⟨RX7, "in", "(III)Z"⟩
def dkwX7_in_0 : List UInt8 := [26, 27, 161, 0, 12, 26, 28, 163, 0, 7, 4, 167, 0, 4, 3, 172]
abbrev dktX7_in_0 : List UInt8 := dkwX7_in_0 ++ []
theorem dksX7_in_0 : cX7_in.data.toList.drop 0 = dktX7_in_0 := by decide +kernel
theorem dX7_in_0 : decode cX7_in 0 = .ok (.iload_n 0, 1) := dk_26 (dk_at dksX7_in_0 0 rfl rfl)
theorem dX7_in_1 : decode cX7_in 1 = .ok (.iload_n 1, 1) := dk_27 (dk_at dksX7_in_0 1 rfl rfl)
theorem dX7_in_2 : decode cX7_in 2 = .ok (.if_icmp .lt 12, 3) := dk_161 0 12 (dk_at dksX7_in_0 2 rfl rfl)
theorem dX7_in_5 : decode cX7_in 5 = .ok (.iload_n 0, 1) := dk_26 (dk_at dksX7_in_0 5 rfl rfl)
theorem dX7_in_6 : decode cX7_in 6 = .ok (.iload_n 2, 1) := dk_28 (dk_at dksX7_in_0 6 rfl rfl)
theorem dX7_in_7 : decode cX7_in 7 = .ok (.if_icmp .gt 7, 3) := dk_163 0 7 (dk_at dksX7_in_0 7 rfl rfl)
theorem dX7_in_10 : decode cX7_in 10 = .ok (.iconst 1, 1) := dk_4 (dk_at dksX7_in_0 10 rfl rfl)
theorem dX7_in_11 : decode cX7_in 11 = .ok (.goto 4, 3) := dk_167 0 4 (dk_at dksX7_in_0 11 rfl rfl)
theorem dX7_in_14 : decode cX7_in 14 = .ok (.iconst 0, 1) := dk_3 (dk_at dksX7_in_0 14 rfl rfl)
theorem dX7_in_15 : decode cX7_in 15 = .ok (.ireturn, 1) := dk_172 (dk_at dksX7_in_0 15 rfl rfl)
abbrev cX7_wear : ByteArray := prog_21_method_14_code
def yX7_wear : MethodName := ⟨RX7, "wear", "(II)Z"⟩
def dkwX7_wear_1 : List UInt8 := [16, 72, 27, 96, 28, 79, 4, 172]
abbrev dktX7_wear_1 : List UInt8 := dkwX7_wear_1 ++ []
def dkwX7_wear_0 : List UInt8 := [27, 184, 0, 97, 153, 0, 13, 28, 3, 16, 99, 184, 0, 111, 154, 0, 5, 3, 172, 42, 180, 0, 7]
abbrev dktX7_wear_0 : List UInt8 := dkwX7_wear_0 ++ dktX7_wear_1
theorem dksX7_wear_0 : cX7_wear.data.toList.drop 0 = dktX7_wear_0 := by decide +kernel
theorem dksX7_wear_1 : cX7_wear.data.toList.drop 23 = dktX7_wear_1 := dk_seg dksX7_wear_0 23 rfl rfl
theorem dX7_wear_0 : decode cX7_wear 0 = .ok (.iload_n 1, 1) := dk_27 (dk_at dksX7_wear_0 0 rfl rfl)
theorem dX7_wear_1 : decode cX7_wear 1 = .ok (.invokestatic 97, 3) := dk_184 0 97 (dk_at dksX7_wear_0 1 rfl rfl)
theorem dX7_wear_4 : decode cX7_wear 4 = .ok (.ifCond .eq 13, 3) := dk_153 0 13 (dk_at dksX7_wear_0 4 rfl rfl)
theorem dX7_wear_7 : decode cX7_wear 7 = .ok (.iload_n 2, 1) := dk_28 (dk_at dksX7_wear_0 7 rfl rfl)
theorem dX7_wear_8 : decode cX7_wear 8 = .ok (.iconst 0, 1) := dk_3 (dk_at dksX7_wear_0 8 rfl rfl)
theorem dX7_wear_9 : decode cX7_wear 9 = .ok (.bipush 99, 2) := dk_16 99 (dk_at dksX7_wear_0 9 rfl rfl)
theorem dX7_wear_11 : decode cX7_wear 11 = .ok (.invokestatic 111, 3) := dk_184 0 111 (dk_at dksX7_wear_0 11 rfl rfl)
theorem dX7_wear_14 : decode cX7_wear 14 = .ok (.ifCond .ne 5, 3) := dk_154 0 5 (dk_at dksX7_wear_0 14 rfl rfl)
theorem dX7_wear_17 : decode cX7_wear 17 = .ok (.iconst 0, 1) := dk_3 (dk_at dksX7_wear_0 17 rfl rfl)
theorem dX7_wear_18 : decode cX7_wear 18 = .ok (.ireturn, 1) := dk_172 (dk_at dksX7_wear_0 18 rfl rfl)
theorem dX7_wear_19 : decode cX7_wear 19 = .ok (.aload_n 0, 1) := dk_42 (dk_at dksX7_wear_0 19 rfl rfl)
theorem dX7_wear_20 : decode cX7_wear 20 = .ok (.getfield 7, 3) := dk_180 0 7 (dk_at dksX7_wear_0 20 rfl rfl)
theorem dX7_wear_23 : decode cX7_wear 23 = .ok (.bipush 72, 2) := dk_16 72 (dk_at dksX7_wear_1 0 rfl rfl)
theorem dX7_wear_25 : decode cX7_wear 25 = .ok (.iload_n 1, 1) := dk_27 (dk_at dksX7_wear_1 2 rfl rfl)
theorem dX7_wear_26 : decode cX7_wear 26 = .ok (.iadd, 1) := dk_96 (dk_at dksX7_wear_1 3 rfl rfl)
theorem dX7_wear_27 : decode cX7_wear 27 = .ok (.iload_n 2, 1) := dk_28 (dk_at dksX7_wear_1 4 rfl rfl)
theorem dX7_wear_28 : decode cX7_wear 28 = .ok (.iastore, 1) := dk_79 (dk_at dksX7_wear_1 5 rfl rfl)
theorem dX7_wear_29 : decode cX7_wear 29 = .ok (.iconst 1, 1) := dk_4 (dk_at dksX7_wear_1 6 rfl rfl)
theorem dX7_wear_30 : decode cX7_wear 30 = .ok (.ireturn, 1) := dk_172 (dk_at dksX7_wear_1 7 rfl rfl)
abbrev cX7_dies : ByteArray := prog_21_method_16_code
def yX7_dies : MethodName := ⟨RX7, "dies", "(I)Z"⟩
def dkwX7_dies_3 : List UInt8 := [180, 0, 7, 16, 109, 42, 180, 0, 7, 16, 109, 46, 4, 27, 120, 2, 130, 126, 79, 4, 172]
abbrev dktX7_dies_3 : List UInt8 := dkwX7_dies_3 ++ []
def dkwX7_dies_2 : List UInt8 := [46, 42, 180, 0, 7, 16, 48, 27, 96, 46, 128, 79, 42, 180, 0, 7, 16, 48, 27, 96, 3, 79, 42]
abbrev dktX7_dies_2 : List UInt8 := dkwX7_dies_2 ++ dktX7_dies_3
def dkwX7_dies_1 : List UInt8 := [159, 0, 36, 42, 27, 182, 0, 115, 42, 180, 0, 7, 16, 48, 28, 96, 42, 180, 0, 7, 16, 48, 28, 96]
abbrev dktX7_dies_1 : List UInt8 := dkwX7_dies_1 ++ dktX7_dies_2
def dkwX7_dies_0 : List UInt8 := [42, 27, 182, 0, 108, 154, 0, 5, 3, 172, 42, 180, 0, 7, 16, 24, 27, 96, 46, 61, 28, 16, 254]
abbrev dktX7_dies_0 : List UInt8 := dkwX7_dies_0 ++ dktX7_dies_1
theorem dksX7_dies_0 : cX7_dies.data.toList.drop 0 = dktX7_dies_0 := by decide +kernel
theorem dksX7_dies_1 : cX7_dies.data.toList.drop 23 = dktX7_dies_1 := dk_seg dksX7_dies_0 23 rfl rfl
theorem dksX7_dies_2 : cX7_dies.data.toList.drop 47 = dktX7_dies_2 := dk_seg dksX7_dies_1 24 rfl rfl
theorem dksX7_dies_3 : cX7_dies.data.toList.drop 70 = dktX7_dies_3 := dk_seg dksX7_dies_2 23 rfl rfl
theorem dX7_dies_0 : decode cX7_dies 0 = .ok (.aload_n 0, 1) := dk_42 (dk_at dksX7_dies_0 0 rfl rfl)
theorem dX7_dies_1 : decode cX7_dies 1 = .ok (.iload_n 1, 1) := dk_27 (dk_at dksX7_dies_0 1 rfl rfl)
theorem dX7_dies_2 : decode cX7_dies 2 = .ok (.invokevirtual 108, 3) := dk_182 0 108 (dk_at dksX7_dies_0 2 rfl rfl)
theorem dX7_dies_5 : decode cX7_dies 5 = .ok (.ifCond .ne 5, 3) := dk_154 0 5 (dk_at dksX7_dies_0 5 rfl rfl)
theorem dX7_dies_8 : decode cX7_dies 8 = .ok (.iconst 0, 1) := dk_3 (dk_at dksX7_dies_0 8 rfl rfl)
theorem dX7_dies_9 : decode cX7_dies 9 = .ok (.ireturn, 1) := dk_172 (dk_at dksX7_dies_0 9 rfl rfl)
theorem dX7_dies_10 : decode cX7_dies 10 = .ok (.aload_n 0, 1) := dk_42 (dk_at dksX7_dies_0 10 rfl rfl)
theorem dX7_dies_11 : decode cX7_dies 11 = .ok (.getfield 7, 3) := dk_180 0 7 (dk_at dksX7_dies_0 11 rfl rfl)
theorem dX7_dies_14 : decode cX7_dies 14 = .ok (.bipush 24, 2) := dk_16 24 (dk_at dksX7_dies_0 14 rfl rfl)
theorem dX7_dies_16 : decode cX7_dies 16 = .ok (.iload_n 1, 1) := dk_27 (dk_at dksX7_dies_0 16 rfl rfl)
theorem dX7_dies_17 : decode cX7_dies 17 = .ok (.iadd, 1) := dk_96 (dk_at dksX7_dies_0 17 rfl rfl)
theorem dX7_dies_18 : decode cX7_dies 18 = .ok (.iaload, 1) := dk_46 (dk_at dksX7_dies_0 18 rfl rfl)
theorem dX7_dies_19 : decode cX7_dies 19 = .ok (.istore_n 2, 1) := dk_61 (dk_at dksX7_dies_0 19 rfl rfl)
theorem dX7_dies_20 : decode cX7_dies 20 = .ok (.iload_n 2, 1) := dk_28 (dk_at dksX7_dies_0 20 rfl rfl)
theorem dX7_dies_21 : decode cX7_dies 21 = .ok (.bipush (-2), 2) := dk_16 254 (dk_at dksX7_dies_0 21 rfl rfl)
theorem dX7_dies_23 : decode cX7_dies 23 = .ok (.if_icmp .eq 36, 3) := dk_159 0 36 (dk_at dksX7_dies_1 0 rfl rfl)
theorem dX7_dies_26 : decode cX7_dies 26 = .ok (.aload_n 0, 1) := dk_42 (dk_at dksX7_dies_1 3 rfl rfl)
theorem dX7_dies_27 : decode cX7_dies 27 = .ok (.iload_n 1, 1) := dk_27 (dk_at dksX7_dies_1 4 rfl rfl)
theorem dX7_dies_28 : decode cX7_dies 28 = .ok (.invokevirtual 115, 3) := dk_182 0 115 (dk_at dksX7_dies_1 5 rfl rfl)
theorem dX7_dies_31 : decode cX7_dies 31 = .ok (.aload_n 0, 1) := dk_42 (dk_at dksX7_dies_1 8 rfl rfl)
theorem dX7_dies_32 : decode cX7_dies 32 = .ok (.getfield 7, 3) := dk_180 0 7 (dk_at dksX7_dies_1 9 rfl rfl)
theorem dX7_dies_35 : decode cX7_dies 35 = .ok (.bipush 48, 2) := dk_16 48 (dk_at dksX7_dies_1 12 rfl rfl)
theorem dX7_dies_37 : decode cX7_dies 37 = .ok (.iload_n 2, 1) := dk_28 (dk_at dksX7_dies_1 14 rfl rfl)
theorem dX7_dies_38 : decode cX7_dies 38 = .ok (.iadd, 1) := dk_96 (dk_at dksX7_dies_1 15 rfl rfl)
theorem dX7_dies_39 : decode cX7_dies 39 = .ok (.aload_n 0, 1) := dk_42 (dk_at dksX7_dies_1 16 rfl rfl)
theorem dX7_dies_40 : decode cX7_dies 40 = .ok (.getfield 7, 3) := dk_180 0 7 (dk_at dksX7_dies_1 17 rfl rfl)
theorem dX7_dies_43 : decode cX7_dies 43 = .ok (.bipush 48, 2) := dk_16 48 (dk_at dksX7_dies_1 20 rfl rfl)
theorem dX7_dies_45 : decode cX7_dies 45 = .ok (.iload_n 2, 1) := dk_28 (dk_at dksX7_dies_1 22 rfl rfl)
theorem dX7_dies_46 : decode cX7_dies 46 = .ok (.iadd, 1) := dk_96 (dk_at dksX7_dies_1 23 rfl rfl)
theorem dX7_dies_47 : decode cX7_dies 47 = .ok (.iaload, 1) := dk_46 (dk_at dksX7_dies_2 0 rfl rfl)
theorem dX7_dies_48 : decode cX7_dies 48 = .ok (.aload_n 0, 1) := dk_42 (dk_at dksX7_dies_2 1 rfl rfl)
theorem dX7_dies_49 : decode cX7_dies 49 = .ok (.getfield 7, 3) := dk_180 0 7 (dk_at dksX7_dies_2 2 rfl rfl)
theorem dX7_dies_52 : decode cX7_dies 52 = .ok (.bipush 48, 2) := dk_16 48 (dk_at dksX7_dies_2 5 rfl rfl)
theorem dX7_dies_54 : decode cX7_dies 54 = .ok (.iload_n 1, 1) := dk_27 (dk_at dksX7_dies_2 7 rfl rfl)
theorem dX7_dies_55 : decode cX7_dies 55 = .ok (.iadd, 1) := dk_96 (dk_at dksX7_dies_2 8 rfl rfl)
theorem dX7_dies_56 : decode cX7_dies 56 = .ok (.iaload, 1) := dk_46 (dk_at dksX7_dies_2 9 rfl rfl)
theorem dX7_dies_57 : decode cX7_dies 57 = .ok (.ior, 1) := dk_128 (dk_at dksX7_dies_2 10 rfl rfl)
theorem dX7_dies_58 : decode cX7_dies 58 = .ok (.iastore, 1) := dk_79 (dk_at dksX7_dies_2 11 rfl rfl)
theorem dX7_dies_59 : decode cX7_dies 59 = .ok (.aload_n 0, 1) := dk_42 (dk_at dksX7_dies_2 12 rfl rfl)
theorem dX7_dies_60 : decode cX7_dies 60 = .ok (.getfield 7, 3) := dk_180 0 7 (dk_at dksX7_dies_2 13 rfl rfl)
theorem dX7_dies_63 : decode cX7_dies 63 = .ok (.bipush 48, 2) := dk_16 48 (dk_at dksX7_dies_2 16 rfl rfl)
theorem dX7_dies_65 : decode cX7_dies 65 = .ok (.iload_n 1, 1) := dk_27 (dk_at dksX7_dies_2 18 rfl rfl)
theorem dX7_dies_66 : decode cX7_dies 66 = .ok (.iadd, 1) := dk_96 (dk_at dksX7_dies_2 19 rfl rfl)
theorem dX7_dies_67 : decode cX7_dies 67 = .ok (.iconst 0, 1) := dk_3 (dk_at dksX7_dies_2 20 rfl rfl)
theorem dX7_dies_68 : decode cX7_dies 68 = .ok (.iastore, 1) := dk_79 (dk_at dksX7_dies_2 21 rfl rfl)
theorem dX7_dies_69 : decode cX7_dies 69 = .ok (.aload_n 0, 1) := dk_42 (dk_at dksX7_dies_2 22 rfl rfl)
theorem dX7_dies_70 : decode cX7_dies 70 = .ok (.getfield 7, 3) := dk_180 0 7 (dk_at dksX7_dies_3 0 rfl rfl)
theorem dX7_dies_73 : decode cX7_dies 73 = .ok (.bipush 109, 2) := dk_16 109 (dk_at dksX7_dies_3 3 rfl rfl)
theorem dX7_dies_75 : decode cX7_dies 75 = .ok (.aload_n 0, 1) := dk_42 (dk_at dksX7_dies_3 5 rfl rfl)
theorem dX7_dies_76 : decode cX7_dies 76 = .ok (.getfield 7, 3) := dk_180 0 7 (dk_at dksX7_dies_3 6 rfl rfl)
theorem dX7_dies_79 : decode cX7_dies 79 = .ok (.bipush 109, 2) := dk_16 109 (dk_at dksX7_dies_3 9 rfl rfl)
theorem dX7_dies_81 : decode cX7_dies 81 = .ok (.iaload, 1) := dk_46 (dk_at dksX7_dies_3 11 rfl rfl)
theorem dX7_dies_82 : decode cX7_dies 82 = .ok (.iconst 1, 1) := dk_4 (dk_at dksX7_dies_3 12 rfl rfl)
theorem dX7_dies_83 : decode cX7_dies 83 = .ok (.iload_n 1, 1) := dk_27 (dk_at dksX7_dies_3 13 rfl rfl)
theorem dX7_dies_84 : decode cX7_dies 84 = .ok (.ishl, 1) := dk_120 (dk_at dksX7_dies_3 14 rfl rfl)
theorem dX7_dies_85 : decode cX7_dies 85 = .ok (.iconst (-1), 1) := dk_2 (dk_at dksX7_dies_3 15 rfl rfl)
theorem dX7_dies_86 : decode cX7_dies 86 = .ok (.ixor, 1) := dk_130 (dk_at dksX7_dies_3 16 rfl rfl)
theorem dX7_dies_87 : decode cX7_dies 87 = .ok (.iand, 1) := dk_126 (dk_at dksX7_dies_3 17 rfl rfl)
theorem dX7_dies_88 : decode cX7_dies 88 = .ok (.iastore, 1) := dk_79 (dk_at dksX7_dies_3 18 rfl rfl)
theorem dX7_dies_89 : decode cX7_dies 89 = .ok (.iconst 1, 1) := dk_4 (dk_at dksX7_dies_3 19 rfl rfl)
theorem dX7_dies_90 : decode cX7_dies 90 = .ok (.ireturn, 1) := dk_172 (dk_at dksX7_dies_3 20 rfl rfl)
abbrev cX7_lives : ByteArray := prog_21_method_11_code
def yX7_lives : MethodName := ⟨RX7, "lives", "(I)Z"⟩
def dkwX7_lives_1 : List UInt8 := [167, 0, 4, 3, 172]
abbrev dktX7_lives_1 : List UInt8 := dkwX7_lives_1 ++ []
def dkwX7_lives_0 : List UInt8 := [42, 27, 182, 0, 105, 153, 0, 21, 42, 180, 0, 7, 16, 109, 46, 27, 184, 0, 101, 153, 0, 7, 4]
abbrev dktX7_lives_0 : List UInt8 := dkwX7_lives_0 ++ dktX7_lives_1
theorem dksX7_lives_0 : cX7_lives.data.toList.drop 0 = dktX7_lives_0 := by decide +kernel
theorem dksX7_lives_1 : cX7_lives.data.toList.drop 23 = dktX7_lives_1 := dk_seg dksX7_lives_0 23 rfl rfl
theorem dX7_lives_0 : decode cX7_lives 0 = .ok (.aload_n 0, 1) := dk_42 (dk_at dksX7_lives_0 0 rfl rfl)
theorem dX7_lives_1 : decode cX7_lives 1 = .ok (.iload_n 1, 1) := dk_27 (dk_at dksX7_lives_0 1 rfl rfl)
theorem dX7_lives_2 : decode cX7_lives 2 = .ok (.invokevirtual 105, 3) := dk_182 0 105 (dk_at dksX7_lives_0 2 rfl rfl)
theorem dX7_lives_5 : decode cX7_lives 5 = .ok (.ifCond .eq 21, 3) := dk_153 0 21 (dk_at dksX7_lives_0 5 rfl rfl)
theorem dX7_lives_8 : decode cX7_lives 8 = .ok (.aload_n 0, 1) := dk_42 (dk_at dksX7_lives_0 8 rfl rfl)
theorem dX7_lives_9 : decode cX7_lives 9 = .ok (.getfield 7, 3) := dk_180 0 7 (dk_at dksX7_lives_0 9 rfl rfl)
theorem dX7_lives_12 : decode cX7_lives 12 = .ok (.bipush 109, 2) := dk_16 109 (dk_at dksX7_lives_0 12 rfl rfl)
theorem dX7_lives_14 : decode cX7_lives 14 = .ok (.iaload, 1) := dk_46 (dk_at dksX7_lives_0 14 rfl rfl)
theorem dX7_lives_15 : decode cX7_lives 15 = .ok (.iload_n 1, 1) := dk_27 (dk_at dksX7_lives_0 15 rfl rfl)
theorem dX7_lives_16 : decode cX7_lives 16 = .ok (.invokestatic 101, 3) := dk_184 0 101 (dk_at dksX7_lives_0 16 rfl rfl)
theorem dX7_lives_19 : decode cX7_lives 19 = .ok (.ifCond .eq 7, 3) := dk_153 0 7 (dk_at dksX7_lives_0 19 rfl rfl)
theorem dX7_lives_22 : decode cX7_lives 22 = .ok (.iconst 1, 1) := dk_4 (dk_at dksX7_lives_0 22 rfl rfl)
theorem dX7_lives_23 : decode cX7_lives 23 = .ok (.goto 4, 3) := dk_167 0 4 (dk_at dksX7_lives_1 0 rfl rfl)
theorem dX7_lives_26 : decode cX7_lives 26 = .ok (.iconst 0, 1) := dk_3 (dk_at dksX7_lives_1 3 rfl rfl)
theorem dX7_lives_27 : decode cX7_lives 27 = .ok (.ireturn, 1) := dk_172 (dk_at dksX7_lives_1 4 rfl rfl)
abbrev cX7_parts : ByteArray := prog_21_method_15_code
def yX7_parts : MethodName := ⟨RX7, "parts", "(I)V"⟩
def dkwX7_parts_1 : List UInt8 := [180, 0, 7, 16, 24, 28, 96, 16, 254, 79, 177]
abbrev dktX7_parts_1 : List UInt8 := dkwX7_parts_1 ++ []
def dkwX7_parts_0 : List UInt8 := [42, 180, 0, 7, 16, 24, 27, 96, 46, 61, 42, 180, 0, 7, 16, 24, 27, 96, 16, 254, 79, 42]
abbrev dktX7_parts_0 : List UInt8 := dkwX7_parts_0 ++ dktX7_parts_1
theorem dksX7_parts_0 : cX7_parts.data.toList.drop 0 = dktX7_parts_0 := by decide +kernel
theorem dksX7_parts_1 : cX7_parts.data.toList.drop 22 = dktX7_parts_1 := dk_seg dksX7_parts_0 22 rfl rfl
theorem dX7_parts_0 : decode cX7_parts 0 = .ok (.aload_n 0, 1) := dk_42 (dk_at dksX7_parts_0 0 rfl rfl)
theorem dX7_parts_1 : decode cX7_parts 1 = .ok (.getfield 7, 3) := dk_180 0 7 (dk_at dksX7_parts_0 1 rfl rfl)
theorem dX7_parts_4 : decode cX7_parts 4 = .ok (.bipush 24, 2) := dk_16 24 (dk_at dksX7_parts_0 4 rfl rfl)
theorem dX7_parts_6 : decode cX7_parts 6 = .ok (.iload_n 1, 1) := dk_27 (dk_at dksX7_parts_0 6 rfl rfl)
theorem dX7_parts_7 : decode cX7_parts 7 = .ok (.iadd, 1) := dk_96 (dk_at dksX7_parts_0 7 rfl rfl)
theorem dX7_parts_8 : decode cX7_parts 8 = .ok (.iaload, 1) := dk_46 (dk_at dksX7_parts_0 8 rfl rfl)
theorem dX7_parts_9 : decode cX7_parts 9 = .ok (.istore_n 2, 1) := dk_61 (dk_at dksX7_parts_0 9 rfl rfl)
theorem dX7_parts_10 : decode cX7_parts 10 = .ok (.aload_n 0, 1) := dk_42 (dk_at dksX7_parts_0 10 rfl rfl)
theorem dX7_parts_11 : decode cX7_parts 11 = .ok (.getfield 7, 3) := dk_180 0 7 (dk_at dksX7_parts_0 11 rfl rfl)
theorem dX7_parts_14 : decode cX7_parts 14 = .ok (.bipush 24, 2) := dk_16 24 (dk_at dksX7_parts_0 14 rfl rfl)
theorem dX7_parts_16 : decode cX7_parts 16 = .ok (.iload_n 1, 1) := dk_27 (dk_at dksX7_parts_0 16 rfl rfl)
theorem dX7_parts_17 : decode cX7_parts 17 = .ok (.iadd, 1) := dk_96 (dk_at dksX7_parts_0 17 rfl rfl)
theorem dX7_parts_18 : decode cX7_parts 18 = .ok (.bipush (-2), 2) := dk_16 254 (dk_at dksX7_parts_0 18 rfl rfl)
theorem dX7_parts_20 : decode cX7_parts 20 = .ok (.iastore, 1) := dk_79 (dk_at dksX7_parts_0 20 rfl rfl)
theorem dX7_parts_21 : decode cX7_parts 21 = .ok (.aload_n 0, 1) := dk_42 (dk_at dksX7_parts_0 21 rfl rfl)
theorem dX7_parts_22 : decode cX7_parts 22 = .ok (.getfield 7, 3) := dk_180 0 7 (dk_at dksX7_parts_1 0 rfl rfl)
theorem dX7_parts_25 : decode cX7_parts 25 = .ok (.bipush 24, 2) := dk_16 24 (dk_at dksX7_parts_1 3 rfl rfl)
theorem dX7_parts_27 : decode cX7_parts 27 = .ok (.iload_n 2, 1) := dk_28 (dk_at dksX7_parts_1 5 rfl rfl)
theorem dX7_parts_28 : decode cX7_parts 28 = .ok (.iadd, 1) := dk_96 (dk_at dksX7_parts_1 6 rfl rfl)
theorem dX7_parts_29 : decode cX7_parts 29 = .ok (.bipush (-2), 2) := dk_16 254 (dk_at dksX7_parts_1 7 rfl rfl)
theorem dX7_parts_31 : decode cX7_parts 31 = .ok (.iastore, 1) := dk_79 (dk_at dksX7_parts_1 9 rfl rfl)
theorem dX7_parts_32 : decode cX7_parts 32 = .ok (.return_, 1) := dk_177 (dk_at dksX7_parts_1 10 rfl rfl)
abbrev cX7_weds : ByteArray := prog_21_method_18_code
def yX7_weds : MethodName := ⟨RX7, "weds", "(II)Z"⟩
def dkwX7_weds_2 : List UInt8 := [172]
abbrev dktX7_weds_2 : List UInt8 := dkwX7_weds_2 ++ []
def dkwX7_weds_1 : List UInt8 := [154, 0, 15, 42, 180, 0, 7, 3, 28, 96, 46, 4, 159, 0, 5, 3, 172, 42, 27, 28, 182, 0, 122, 4]
abbrev dktX7_weds_1 : List UInt8 := dkwX7_weds_1 ++ dktX7_weds_2
def dkwX7_weds_0 : List UInt8 := [42, 27, 182, 0, 119, 153, 0, 34, 42, 28, 182, 0, 119, 153, 0, 26, 42, 180, 0, 7, 3, 27, 96, 46]
abbrev dktX7_weds_0 : List UInt8 := dkwX7_weds_0 ++ dktX7_weds_1
theorem dksX7_weds_0 : cX7_weds.data.toList.drop 0 = dktX7_weds_0 := by decide +kernel
theorem dksX7_weds_1 : cX7_weds.data.toList.drop 24 = dktX7_weds_1 := dk_seg dksX7_weds_0 24 rfl rfl
theorem dksX7_weds_2 : cX7_weds.data.toList.drop 48 = dktX7_weds_2 := dk_seg dksX7_weds_1 24 rfl rfl
theorem dX7_weds_0 : decode cX7_weds 0 = .ok (.aload_n 0, 1) := dk_42 (dk_at dksX7_weds_0 0 rfl rfl)
theorem dX7_weds_1 : decode cX7_weds 1 = .ok (.iload_n 1, 1) := dk_27 (dk_at dksX7_weds_0 1 rfl rfl)
theorem dX7_weds_2 : decode cX7_weds 2 = .ok (.invokevirtual 119, 3) := dk_182 0 119 (dk_at dksX7_weds_0 2 rfl rfl)
theorem dX7_weds_5 : decode cX7_weds 5 = .ok (.ifCond .eq 34, 3) := dk_153 0 34 (dk_at dksX7_weds_0 5 rfl rfl)
theorem dX7_weds_8 : decode cX7_weds 8 = .ok (.aload_n 0, 1) := dk_42 (dk_at dksX7_weds_0 8 rfl rfl)
theorem dX7_weds_9 : decode cX7_weds 9 = .ok (.iload_n 2, 1) := dk_28 (dk_at dksX7_weds_0 9 rfl rfl)
theorem dX7_weds_10 : decode cX7_weds 10 = .ok (.invokevirtual 119, 3) := dk_182 0 119 (dk_at dksX7_weds_0 10 rfl rfl)
theorem dX7_weds_13 : decode cX7_weds 13 = .ok (.ifCond .eq 26, 3) := dk_153 0 26 (dk_at dksX7_weds_0 13 rfl rfl)
theorem dX7_weds_16 : decode cX7_weds 16 = .ok (.aload_n 0, 1) := dk_42 (dk_at dksX7_weds_0 16 rfl rfl)
theorem dX7_weds_17 : decode cX7_weds 17 = .ok (.getfield 7, 3) := dk_180 0 7 (dk_at dksX7_weds_0 17 rfl rfl)
theorem dX7_weds_20 : decode cX7_weds 20 = .ok (.iconst 0, 1) := dk_3 (dk_at dksX7_weds_0 20 rfl rfl)
theorem dX7_weds_21 : decode cX7_weds 21 = .ok (.iload_n 1, 1) := dk_27 (dk_at dksX7_weds_0 21 rfl rfl)
theorem dX7_weds_22 : decode cX7_weds 22 = .ok (.iadd, 1) := dk_96 (dk_at dksX7_weds_0 22 rfl rfl)
theorem dX7_weds_23 : decode cX7_weds 23 = .ok (.iaload, 1) := dk_46 (dk_at dksX7_weds_0 23 rfl rfl)
theorem dX7_weds_24 : decode cX7_weds 24 = .ok (.ifCond .ne 15, 3) := dk_154 0 15 (dk_at dksX7_weds_1 0 rfl rfl)
theorem dX7_weds_27 : decode cX7_weds 27 = .ok (.aload_n 0, 1) := dk_42 (dk_at dksX7_weds_1 3 rfl rfl)
theorem dX7_weds_28 : decode cX7_weds 28 = .ok (.getfield 7, 3) := dk_180 0 7 (dk_at dksX7_weds_1 4 rfl rfl)
theorem dX7_weds_31 : decode cX7_weds 31 = .ok (.iconst 0, 1) := dk_3 (dk_at dksX7_weds_1 7 rfl rfl)
theorem dX7_weds_32 : decode cX7_weds 32 = .ok (.iload_n 2, 1) := dk_28 (dk_at dksX7_weds_1 8 rfl rfl)
theorem dX7_weds_33 : decode cX7_weds 33 = .ok (.iadd, 1) := dk_96 (dk_at dksX7_weds_1 9 rfl rfl)
theorem dX7_weds_34 : decode cX7_weds 34 = .ok (.iaload, 1) := dk_46 (dk_at dksX7_weds_1 10 rfl rfl)
theorem dX7_weds_35 : decode cX7_weds 35 = .ok (.iconst 1, 1) := dk_4 (dk_at dksX7_weds_1 11 rfl rfl)
theorem dX7_weds_36 : decode cX7_weds 36 = .ok (.if_icmp .eq 5, 3) := dk_159 0 5 (dk_at dksX7_weds_1 12 rfl rfl)
theorem dX7_weds_39 : decode cX7_weds 39 = .ok (.iconst 0, 1) := dk_3 (dk_at dksX7_weds_1 15 rfl rfl)
theorem dX7_weds_40 : decode cX7_weds 40 = .ok (.ireturn, 1) := dk_172 (dk_at dksX7_weds_1 16 rfl rfl)
theorem dX7_weds_41 : decode cX7_weds 41 = .ok (.aload_n 0, 1) := dk_42 (dk_at dksX7_weds_1 17 rfl rfl)
theorem dX7_weds_42 : decode cX7_weds 42 = .ok (.iload_n 1, 1) := dk_27 (dk_at dksX7_weds_1 18 rfl rfl)
theorem dX7_weds_43 : decode cX7_weds 43 = .ok (.iload_n 2, 1) := dk_28 (dk_at dksX7_weds_1 19 rfl rfl)
theorem dX7_weds_44 : decode cX7_weds 44 = .ok (.invokevirtual 122, 3) := dk_182 0 122 (dk_at dksX7_weds_1 20 rfl rfl)
theorem dX7_weds_47 : decode cX7_weds 47 = .ok (.iconst 1, 1) := dk_4 (dk_at dksX7_weds_1 23 rfl rfl)
theorem dX7_weds_48 : decode cX7_weds 48 = .ok (.ireturn, 1) := dk_172 (dk_at dksX7_weds_2 0 rfl rfl)
abbrev cX7_isFree : ByteArray := prog_21_method_12_code
def yX7_isFree : MethodName := ⟨RX7, "isFree", "(I)Z"⟩
def dkwX7_isFree_1 : List UInt8 := [167, 0, 4, 3, 172]
abbrev dktX7_isFree_1 : List UInt8 := dkwX7_isFree_1 ++ []
def dkwX7_isFree_0 : List UInt8 := [42, 27, 182, 0, 108, 153, 0, 21, 42, 180, 0, 7, 16, 24, 27, 96, 46, 16, 254, 160, 0, 7, 4]
abbrev dktX7_isFree_0 : List UInt8 := dkwX7_isFree_0 ++ dktX7_isFree_1
theorem dksX7_isFree_0 : cX7_isFree.data.toList.drop 0 = dktX7_isFree_0 := by decide +kernel
theorem dksX7_isFree_1 : cX7_isFree.data.toList.drop 23 = dktX7_isFree_1 := dk_seg dksX7_isFree_0 23 rfl rfl
theorem dX7_isFree_0 : decode cX7_isFree 0 = .ok (.aload_n 0, 1) := dk_42 (dk_at dksX7_isFree_0 0 rfl rfl)
theorem dX7_isFree_1 : decode cX7_isFree 1 = .ok (.iload_n 1, 1) := dk_27 (dk_at dksX7_isFree_0 1 rfl rfl)
theorem dX7_isFree_2 : decode cX7_isFree 2 = .ok (.invokevirtual 108, 3) := dk_182 0 108 (dk_at dksX7_isFree_0 2 rfl rfl)
theorem dX7_isFree_5 : decode cX7_isFree 5 = .ok (.ifCond .eq 21, 3) := dk_153 0 21 (dk_at dksX7_isFree_0 5 rfl rfl)
theorem dX7_isFree_8 : decode cX7_isFree 8 = .ok (.aload_n 0, 1) := dk_42 (dk_at dksX7_isFree_0 8 rfl rfl)
theorem dX7_isFree_9 : decode cX7_isFree 9 = .ok (.getfield 7, 3) := dk_180 0 7 (dk_at dksX7_isFree_0 9 rfl rfl)
theorem dX7_isFree_12 : decode cX7_isFree 12 = .ok (.bipush 24, 2) := dk_16 24 (dk_at dksX7_isFree_0 12 rfl rfl)
theorem dX7_isFree_14 : decode cX7_isFree 14 = .ok (.iload_n 1, 1) := dk_27 (dk_at dksX7_isFree_0 14 rfl rfl)
theorem dX7_isFree_15 : decode cX7_isFree 15 = .ok (.iadd, 1) := dk_96 (dk_at dksX7_isFree_0 15 rfl rfl)
theorem dX7_isFree_16 : decode cX7_isFree 16 = .ok (.iaload, 1) := dk_46 (dk_at dksX7_isFree_0 16 rfl rfl)
theorem dX7_isFree_17 : decode cX7_isFree 17 = .ok (.bipush (-2), 2) := dk_16 254 (dk_at dksX7_isFree_0 17 rfl rfl)
theorem dX7_isFree_19 : decode cX7_isFree 19 = .ok (.if_icmp .ne 7, 3) := dk_160 0 7 (dk_at dksX7_isFree_0 19 rfl rfl)
theorem dX7_isFree_22 : decode cX7_isFree 22 = .ok (.iconst 1, 1) := dk_4 (dk_at dksX7_isFree_0 22 rfl rfl)
theorem dX7_isFree_23 : decode cX7_isFree 23 = .ok (.goto 4, 3) := dk_167 0 4 (dk_at dksX7_isFree_1 0 rfl rfl)
theorem dX7_isFree_26 : decode cX7_isFree 26 = .ok (.iconst 0, 1) := dk_3 (dk_at dksX7_isFree_1 3 rfl rfl)
theorem dX7_isFree_27 : decode cX7_isFree 27 = .ok (.ireturn, 1) := dk_172 (dk_at dksX7_isFree_1 4 rfl rfl)
abbrev cX7_wedsTwo : ByteArray := prog_21_method_17_code
def yX7_wedsTwo : MethodName := ⟨RX7, "wedsTwo", "(II)V"⟩
def dkwX7_wedsTwo_1 : List UInt8 := [16, 36, 27, 96, 3, 79, 42, 180, 0, 7, 16, 36, 28, 96, 3, 79, 177]
abbrev dktX7_wedsTwo_1 : List UInt8 := dkwX7_wedsTwo_1 ++ []
def dkwX7_wedsTwo_0 : List UInt8 := [42, 180, 0, 7, 16, 24, 27, 96, 28, 79, 42, 180, 0, 7, 16, 24, 28, 96, 27, 79, 42, 180, 0, 7]
abbrev dktX7_wedsTwo_0 : List UInt8 := dkwX7_wedsTwo_0 ++ dktX7_wedsTwo_1
theorem dksX7_wedsTwo_0 : cX7_wedsTwo.data.toList.drop 0 = dktX7_wedsTwo_0 := by decide +kernel
theorem dksX7_wedsTwo_1 : cX7_wedsTwo.data.toList.drop 24 = dktX7_wedsTwo_1 := dk_seg dksX7_wedsTwo_0 24 rfl rfl
theorem dX7_wedsTwo_0 : decode cX7_wedsTwo 0 = .ok (.aload_n 0, 1) := dk_42 (dk_at dksX7_wedsTwo_0 0 rfl rfl)
theorem dX7_wedsTwo_1 : decode cX7_wedsTwo 1 = .ok (.getfield 7, 3) := dk_180 0 7 (dk_at dksX7_wedsTwo_0 1 rfl rfl)
theorem dX7_wedsTwo_4 : decode cX7_wedsTwo 4 = .ok (.bipush 24, 2) := dk_16 24 (dk_at dksX7_wedsTwo_0 4 rfl rfl)
theorem dX7_wedsTwo_6 : decode cX7_wedsTwo 6 = .ok (.iload_n 1, 1) := dk_27 (dk_at dksX7_wedsTwo_0 6 rfl rfl)
theorem dX7_wedsTwo_7 : decode cX7_wedsTwo 7 = .ok (.iadd, 1) := dk_96 (dk_at dksX7_wedsTwo_0 7 rfl rfl)
theorem dX7_wedsTwo_8 : decode cX7_wedsTwo 8 = .ok (.iload_n 2, 1) := dk_28 (dk_at dksX7_wedsTwo_0 8 rfl rfl)
theorem dX7_wedsTwo_9 : decode cX7_wedsTwo 9 = .ok (.iastore, 1) := dk_79 (dk_at dksX7_wedsTwo_0 9 rfl rfl)
theorem dX7_wedsTwo_10 : decode cX7_wedsTwo 10 = .ok (.aload_n 0, 1) := dk_42 (dk_at dksX7_wedsTwo_0 10 rfl rfl)
theorem dX7_wedsTwo_11 : decode cX7_wedsTwo 11 = .ok (.getfield 7, 3) := dk_180 0 7 (dk_at dksX7_wedsTwo_0 11 rfl rfl)
theorem dX7_wedsTwo_14 : decode cX7_wedsTwo 14 = .ok (.bipush 24, 2) := dk_16 24 (dk_at dksX7_wedsTwo_0 14 rfl rfl)
theorem dX7_wedsTwo_16 : decode cX7_wedsTwo 16 = .ok (.iload_n 2, 1) := dk_28 (dk_at dksX7_wedsTwo_0 16 rfl rfl)
theorem dX7_wedsTwo_17 : decode cX7_wedsTwo 17 = .ok (.iadd, 1) := dk_96 (dk_at dksX7_wedsTwo_0 17 rfl rfl)
theorem dX7_wedsTwo_18 : decode cX7_wedsTwo 18 = .ok (.iload_n 1, 1) := dk_27 (dk_at dksX7_wedsTwo_0 18 rfl rfl)
theorem dX7_wedsTwo_19 : decode cX7_wedsTwo 19 = .ok (.iastore, 1) := dk_79 (dk_at dksX7_wedsTwo_0 19 rfl rfl)
theorem dX7_wedsTwo_20 : decode cX7_wedsTwo 20 = .ok (.aload_n 0, 1) := dk_42 (dk_at dksX7_wedsTwo_0 20 rfl rfl)
theorem dX7_wedsTwo_21 : decode cX7_wedsTwo 21 = .ok (.getfield 7, 3) := dk_180 0 7 (dk_at dksX7_wedsTwo_0 21 rfl rfl)
theorem dX7_wedsTwo_24 : decode cX7_wedsTwo 24 = .ok (.bipush 36, 2) := dk_16 36 (dk_at dksX7_wedsTwo_1 0 rfl rfl)
theorem dX7_wedsTwo_26 : decode cX7_wedsTwo 26 = .ok (.iload_n 1, 1) := dk_27 (dk_at dksX7_wedsTwo_1 2 rfl rfl)
theorem dX7_wedsTwo_27 : decode cX7_wedsTwo 27 = .ok (.iadd, 1) := dk_96 (dk_at dksX7_wedsTwo_1 3 rfl rfl)
theorem dX7_wedsTwo_28 : decode cX7_wedsTwo 28 = .ok (.iconst 0, 1) := dk_3 (dk_at dksX7_wedsTwo_1 4 rfl rfl)
theorem dX7_wedsTwo_29 : decode cX7_wedsTwo 29 = .ok (.iastore, 1) := dk_79 (dk_at dksX7_wedsTwo_1 5 rfl rfl)
theorem dX7_wedsTwo_30 : decode cX7_wedsTwo 30 = .ok (.aload_n 0, 1) := dk_42 (dk_at dksX7_wedsTwo_1 6 rfl rfl)
theorem dX7_wedsTwo_31 : decode cX7_wedsTwo 31 = .ok (.getfield 7, 3) := dk_180 0 7 (dk_at dksX7_wedsTwo_1 7 rfl rfl)
theorem dX7_wedsTwo_34 : decode cX7_wedsTwo 34 = .ok (.bipush 36, 2) := dk_16 36 (dk_at dksX7_wedsTwo_1 10 rfl rfl)
theorem dX7_wedsTwo_36 : decode cX7_wedsTwo 36 = .ok (.iload_n 2, 1) := dk_28 (dk_at dksX7_wedsTwo_1 12 rfl rfl)
theorem dX7_wedsTwo_37 : decode cX7_wedsTwo 37 = .ok (.iadd, 1) := dk_96 (dk_at dksX7_wedsTwo_1 13 rfl rfl)
theorem dX7_wedsTwo_38 : decode cX7_wedsTwo 38 = .ok (.iconst 0, 1) := dk_3 (dk_at dksX7_wedsTwo_1 14 rfl rfl)
theorem dX7_wedsTwo_39 : decode cX7_wedsTwo 39 = .ok (.iastore, 1) := dk_79 (dk_at dksX7_wedsTwo_1 15 rfl rfl)
theorem dX7_wedsTwo_40 : decode cX7_wedsTwo 40 = .ok (.return_, 1) := dk_177 (dk_at dksX7_wedsTwo_1 16 rfl rfl)
abbrev cX7_feed : ByteArray := prog_21_method_20_code
def yX7_feed : MethodName := ⟨RX7, "feed", "(IIIII)I"⟩
def dkwX7_feed_2 : List UInt8 := [172]
abbrev dktX7_feed_2 : List UInt8 := dkwX7_feed_2 ++ []
def dkwX7_feed_1 : List UInt8 := [182, 0, 130, 42, 29, 182, 0, 130, 42, 21, 4, 182, 0, 130, 42, 21, 5, 182, 0, 130, 42, 180, 0, 126]
abbrev dktX7_feed_1 : List UInt8 := dkwX7_feed_1 ++ dktX7_feed_2
def dkwX7_feed_0 : List UInt8 := [42, 180, 0, 126, 16, 20, 96, 17, 1, 4, 164, 0, 5, 2, 172, 42, 27, 182, 0, 130, 42, 28]
abbrev dktX7_feed_0 : List UInt8 := dkwX7_feed_0 ++ dktX7_feed_1
theorem dksX7_feed_0 : cX7_feed.data.toList.drop 0 = dktX7_feed_0 := by decide +kernel
theorem dksX7_feed_1 : cX7_feed.data.toList.drop 22 = dktX7_feed_1 := dk_seg dksX7_feed_0 22 rfl rfl
theorem dksX7_feed_2 : cX7_feed.data.toList.drop 46 = dktX7_feed_2 := dk_seg dksX7_feed_1 24 rfl rfl
theorem dX7_feed_0 : decode cX7_feed 0 = .ok (.aload_n 0, 1) := dk_42 (dk_at dksX7_feed_0 0 rfl rfl)
theorem dX7_feed_1 : decode cX7_feed 1 = .ok (.getfield 126, 3) := dk_180 0 126 (dk_at dksX7_feed_0 1 rfl rfl)
theorem dX7_feed_4 : decode cX7_feed 4 = .ok (.bipush 20, 2) := dk_16 20 (dk_at dksX7_feed_0 4 rfl rfl)
theorem dX7_feed_6 : decode cX7_feed 6 = .ok (.iadd, 1) := dk_96 (dk_at dksX7_feed_0 6 rfl rfl)
theorem dX7_feed_7 : decode cX7_feed 7 = .ok (.sipush 260, 3) := dk_17 1 4 (dk_at dksX7_feed_0 7 rfl rfl)
theorem dX7_feed_10 : decode cX7_feed 10 = .ok (.if_icmp .le 5, 3) := dk_164 0 5 (dk_at dksX7_feed_0 10 rfl rfl)
theorem dX7_feed_13 : decode cX7_feed 13 = .ok (.iconst (-1), 1) := dk_2 (dk_at dksX7_feed_0 13 rfl rfl)
theorem dX7_feed_14 : decode cX7_feed 14 = .ok (.ireturn, 1) := dk_172 (dk_at dksX7_feed_0 14 rfl rfl)
theorem dX7_feed_15 : decode cX7_feed 15 = .ok (.aload_n 0, 1) := dk_42 (dk_at dksX7_feed_0 15 rfl rfl)
theorem dX7_feed_16 : decode cX7_feed 16 = .ok (.iload_n 1, 1) := dk_27 (dk_at dksX7_feed_0 16 rfl rfl)
theorem dX7_feed_17 : decode cX7_feed 17 = .ok (.invokevirtual 130, 3) := dk_182 0 130 (dk_at dksX7_feed_0 17 rfl rfl)
theorem dX7_feed_20 : decode cX7_feed 20 = .ok (.aload_n 0, 1) := dk_42 (dk_at dksX7_feed_0 20 rfl rfl)
theorem dX7_feed_21 : decode cX7_feed 21 = .ok (.iload_n 2, 1) := dk_28 (dk_at dksX7_feed_0 21 rfl rfl)
theorem dX7_feed_22 : decode cX7_feed 22 = .ok (.invokevirtual 130, 3) := dk_182 0 130 (dk_at dksX7_feed_1 0 rfl rfl)
theorem dX7_feed_25 : decode cX7_feed 25 = .ok (.aload_n 0, 1) := dk_42 (dk_at dksX7_feed_1 3 rfl rfl)
theorem dX7_feed_26 : decode cX7_feed 26 = .ok (.iload_n 3, 1) := dk_29 (dk_at dksX7_feed_1 4 rfl rfl)
theorem dX7_feed_27 : decode cX7_feed 27 = .ok (.invokevirtual 130, 3) := dk_182 0 130 (dk_at dksX7_feed_1 5 rfl rfl)
theorem dX7_feed_30 : decode cX7_feed 30 = .ok (.aload_n 0, 1) := dk_42 (dk_at dksX7_feed_1 8 rfl rfl)
theorem dX7_feed_31 : decode cX7_feed 31 = .ok (.iload 4, 2) := dk_21 4 (dk_at dksX7_feed_1 9 rfl rfl)
theorem dX7_feed_33 : decode cX7_feed 33 = .ok (.invokevirtual 130, 3) := dk_182 0 130 (dk_at dksX7_feed_1 11 rfl rfl)
theorem dX7_feed_36 : decode cX7_feed 36 = .ok (.aload_n 0, 1) := dk_42 (dk_at dksX7_feed_1 14 rfl rfl)
theorem dX7_feed_37 : decode cX7_feed 37 = .ok (.iload 5, 2) := dk_21 5 (dk_at dksX7_feed_1 15 rfl rfl)
theorem dX7_feed_39 : decode cX7_feed 39 = .ok (.invokevirtual 130, 3) := dk_182 0 130 (dk_at dksX7_feed_1 17 rfl rfl)
theorem dX7_feed_42 : decode cX7_feed 42 = .ok (.aload_n 0, 1) := dk_42 (dk_at dksX7_feed_1 20 rfl rfl)
theorem dX7_feed_43 : decode cX7_feed 43 = .ok (.getfield 126, 3) := dk_180 0 126 (dk_at dksX7_feed_1 21 rfl rfl)
theorem dX7_feed_46 : decode cX7_feed 46 = .ok (.ireturn, 1) := dk_172 (dk_at dksX7_feed_2 0 rfl rfl)
abbrev cX7_types : ByteArray := prog_21_method_19_code
def yX7_types : MethodName := ⟨RX7, "types", "(I)V"⟩
def dkwX7_types_1 : List UInt8 := [180, 0, 126, 4, 96, 181, 0, 126, 132, 2, 255, 167, 255, 223, 177]
abbrev dktX7_types_1 : List UInt8 := dkwX7_types_1 ++ []
def dkwX7_types_0 : List UInt8 := [6, 61, 28, 155, 0, 35, 42, 180, 0, 19, 42, 180, 0, 126, 27, 16, 8, 28, 104, 122, 145, 84, 42, 42]
abbrev dktX7_types_0 : List UInt8 := dkwX7_types_0 ++ dktX7_types_1
theorem dksX7_types_0 : cX7_types.data.toList.drop 0 = dktX7_types_0 := by decide +kernel
theorem dksX7_types_1 : cX7_types.data.toList.drop 24 = dktX7_types_1 := dk_seg dksX7_types_0 24 rfl rfl
theorem dX7_types_0 : decode cX7_types 0 = .ok (.iconst 3, 1) := dk_6 (dk_at dksX7_types_0 0 rfl rfl)
theorem dX7_types_1 : decode cX7_types 1 = .ok (.istore_n 2, 1) := dk_61 (dk_at dksX7_types_0 1 rfl rfl)
theorem dX7_types_2 : decode cX7_types 2 = .ok (.iload_n 2, 1) := dk_28 (dk_at dksX7_types_0 2 rfl rfl)
theorem dX7_types_3 : decode cX7_types 3 = .ok (.ifCond .lt 35, 3) := dk_155 0 35 (dk_at dksX7_types_0 3 rfl rfl)
theorem dX7_types_6 : decode cX7_types 6 = .ok (.aload_n 0, 1) := dk_42 (dk_at dksX7_types_0 6 rfl rfl)
theorem dX7_types_7 : decode cX7_types 7 = .ok (.getfield 19, 3) := dk_180 0 19 (dk_at dksX7_types_0 7 rfl rfl)
theorem dX7_types_10 : decode cX7_types 10 = .ok (.aload_n 0, 1) := dk_42 (dk_at dksX7_types_0 10 rfl rfl)
theorem dX7_types_11 : decode cX7_types 11 = .ok (.getfield 126, 3) := dk_180 0 126 (dk_at dksX7_types_0 11 rfl rfl)
theorem dX7_types_14 : decode cX7_types 14 = .ok (.iload_n 1, 1) := dk_27 (dk_at dksX7_types_0 14 rfl rfl)
theorem dX7_types_15 : decode cX7_types 15 = .ok (.bipush 8, 2) := dk_16 8 (dk_at dksX7_types_0 15 rfl rfl)
theorem dX7_types_17 : decode cX7_types 17 = .ok (.iload_n 2, 1) := dk_28 (dk_at dksX7_types_0 17 rfl rfl)
theorem dX7_types_18 : decode cX7_types 18 = .ok (.imul, 1) := dk_104 (dk_at dksX7_types_0 18 rfl rfl)
theorem dX7_types_19 : decode cX7_types 19 = .ok (.ishr, 1) := dk_122 (dk_at dksX7_types_0 19 rfl rfl)
theorem dX7_types_20 : decode cX7_types 20 = .ok (.i2b, 1) := dk_145 (dk_at dksX7_types_0 20 rfl rfl)
theorem dX7_types_21 : decode cX7_types 21 = .ok (.bastore, 1) := dk_84 (dk_at dksX7_types_0 21 rfl rfl)
theorem dX7_types_22 : decode cX7_types 22 = .ok (.aload_n 0, 1) := dk_42 (dk_at dksX7_types_0 22 rfl rfl)
theorem dX7_types_23 : decode cX7_types 23 = .ok (.aload_n 0, 1) := dk_42 (dk_at dksX7_types_0 23 rfl rfl)
theorem dX7_types_24 : decode cX7_types 24 = .ok (.getfield 126, 3) := dk_180 0 126 (dk_at dksX7_types_1 0 rfl rfl)
theorem dX7_types_27 : decode cX7_types 27 = .ok (.iconst 1, 1) := dk_4 (dk_at dksX7_types_1 3 rfl rfl)
theorem dX7_types_28 : decode cX7_types 28 = .ok (.iadd, 1) := dk_96 (dk_at dksX7_types_1 4 rfl rfl)
theorem dX7_types_29 : decode cX7_types 29 = .ok (.putfield 126, 3) := dk_181 0 126 (dk_at dksX7_types_1 5 rfl rfl)
theorem dX7_types_32 : decode cX7_types 32 = .ok (.iinc 2 (-1), 3) := dk_132 2 255 (dk_at dksX7_types_1 8 rfl rfl)
theorem dX7_types_35 : decode cX7_types 35 = .ok (.goto (-33), 3) := dk_167 255 223 (dk_at dksX7_types_1 11 rfl rfl)
theorem dX7_types_38 : decode cX7_types 38 = .ok (.return_, 1) := dk_177 (dk_at dksX7_types_1 14 rfl rfl)
abbrev cX7_law : ByteArray := prog_21_method_42_code
def yX7_law : MethodName := ⟨RX7, "law", "(I)I"⟩
def dkwX7_law_8 : List UInt8 := [29, 46, 79, 132, 3, 1, 167, 255, 197, 42, 180, 0, 213, 172]
abbrev dktX7_law_8 : List UInt8 := dkwX7_law_8 ++ []
def dkwX7_law_7 : List UInt8 := [29, 46, 79, 42, 180, 0, 50, 29, 42, 180, 0, 35, 29, 46, 79, 42, 180, 0, 53, 29, 42, 180, 0, 38]
abbrev dktX7_law_7 : List UInt8 := dkwX7_law_7 ++ dktX7_law_8
def dkwX7_law_6 : List UInt8 := [162, 0, 57, 42, 180, 0, 44, 29, 42, 180, 0, 29, 29, 46, 79, 42, 180, 0, 47, 29, 42, 180, 0, 32]
abbrev dktX7_law_6 : List UInt8 := dkwX7_law_6 ++ dktX7_law_7
def dkwX7_law_5 : List UInt8 := [180, 0, 41, 29, 42, 180, 0, 23, 29, 46, 79, 132, 3, 1, 167, 255, 233, 3, 62, 29, 42, 180, 0, 213]
abbrev dktX7_law_5 : List UInt8 := dkwX7_law_5 ++ dktX7_law_6
def dkwX7_law_4 : List UInt8 := [42, 180, 0, 143, 172, 42, 42, 180, 0, 213, 181, 0, 225, 3, 62, 29, 42, 180, 0, 156, 162, 0, 21, 42]
abbrev dktX7_law_4 : List UInt8 := dkwX7_law_4 ++ dktX7_law_5
def dkwX7_law_3 : List UInt8 := [182, 0, 219, 153, 0, 7, 4, 167, 0, 4, 3, 61, 167, 255, 219, 42, 3, 181, 0, 126, 28, 154, 0, 8]
abbrev dktX7_law_3 : List UInt8 := dkwX7_law_3 ++ dktX7_law_4
def dkwX7_law_2 : List UInt8 := [153, 0, 39, 42, 180, 0, 133, 42, 180, 0, 136, 162, 0, 28, 42, 16, 59, 182, 0, 222, 153, 0, 14, 42]
abbrev dktX7_law_2 : List UInt8 := dkwX7_law_2 ++ dktX7_law_3
def dkwX7_law_1 : List UInt8 := [181, 0, 133, 42, 27, 181, 0, 136, 42, 3, 181, 0, 156, 42, 3, 181, 0, 213, 42, 182, 0, 219, 61, 28]
abbrev dktX7_law_1 : List UInt8 := dkwX7_law_1 ++ dktX7_law_2
def dkwX7_law_0 : List UInt8 := [27, 4, 17, 0, 240, 184, 0, 111, 153, 0, 11, 27, 42, 180, 0, 126, 164, 0, 5, 2, 172, 42, 3]
abbrev dktX7_law_0 : List UInt8 := dkwX7_law_0 ++ dktX7_law_1
theorem dksX7_law_0 : cX7_law.data.toList.drop 0 = dktX7_law_0 := by decide +kernel
theorem dksX7_law_1 : cX7_law.data.toList.drop 23 = dktX7_law_1 := dk_seg dksX7_law_0 23 rfl rfl
theorem dksX7_law_2 : cX7_law.data.toList.drop 47 = dktX7_law_2 := dk_seg dksX7_law_1 24 rfl rfl
theorem dksX7_law_3 : cX7_law.data.toList.drop 71 = dktX7_law_3 := dk_seg dksX7_law_2 24 rfl rfl
theorem dksX7_law_4 : cX7_law.data.toList.drop 95 = dktX7_law_4 := dk_seg dksX7_law_3 24 rfl rfl
theorem dksX7_law_5 : cX7_law.data.toList.drop 119 = dktX7_law_5 := dk_seg dksX7_law_4 24 rfl rfl
theorem dksX7_law_6 : cX7_law.data.toList.drop 143 = dktX7_law_6 := dk_seg dksX7_law_5 24 rfl rfl
theorem dksX7_law_7 : cX7_law.data.toList.drop 167 = dktX7_law_7 := dk_seg dksX7_law_6 24 rfl rfl
theorem dksX7_law_8 : cX7_law.data.toList.drop 191 = dktX7_law_8 := dk_seg dksX7_law_7 24 rfl rfl
theorem dX7_law_0 : decode cX7_law 0 = .ok (.iload_n 1, 1) := dk_27 (dk_at dksX7_law_0 0 rfl rfl)
theorem dX7_law_1 : decode cX7_law 1 = .ok (.iconst 1, 1) := dk_4 (dk_at dksX7_law_0 1 rfl rfl)
theorem dX7_law_2 : decode cX7_law 2 = .ok (.sipush 240, 3) := dk_17 0 240 (dk_at dksX7_law_0 2 rfl rfl)
theorem dX7_law_5 : decode cX7_law 5 = .ok (.invokestatic 111, 3) := dk_184 0 111 (dk_at dksX7_law_0 5 rfl rfl)
theorem dX7_law_8 : decode cX7_law 8 = .ok (.ifCond .eq 11, 3) := dk_153 0 11 (dk_at dksX7_law_0 8 rfl rfl)
theorem dX7_law_11 : decode cX7_law 11 = .ok (.iload_n 1, 1) := dk_27 (dk_at dksX7_law_0 11 rfl rfl)
theorem dX7_law_12 : decode cX7_law 12 = .ok (.aload_n 0, 1) := dk_42 (dk_at dksX7_law_0 12 rfl rfl)
theorem dX7_law_13 : decode cX7_law 13 = .ok (.getfield 126, 3) := dk_180 0 126 (dk_at dksX7_law_0 13 rfl rfl)
theorem dX7_law_16 : decode cX7_law 16 = .ok (.if_icmp .le 5, 3) := dk_164 0 5 (dk_at dksX7_law_0 16 rfl rfl)
theorem dX7_law_19 : decode cX7_law 19 = .ok (.iconst (-1), 1) := dk_2 (dk_at dksX7_law_0 19 rfl rfl)
theorem dX7_law_20 : decode cX7_law 20 = .ok (.ireturn, 1) := dk_172 (dk_at dksX7_law_0 20 rfl rfl)
theorem dX7_law_21 : decode cX7_law 21 = .ok (.aload_n 0, 1) := dk_42 (dk_at dksX7_law_0 21 rfl rfl)
theorem dX7_law_22 : decode cX7_law 22 = .ok (.iconst 0, 1) := dk_3 (dk_at dksX7_law_0 22 rfl rfl)
theorem dX7_law_23 : decode cX7_law 23 = .ok (.putfield 133, 3) := dk_181 0 133 (dk_at dksX7_law_1 0 rfl rfl)
theorem dX7_law_26 : decode cX7_law 26 = .ok (.aload_n 0, 1) := dk_42 (dk_at dksX7_law_1 3 rfl rfl)
theorem dX7_law_27 : decode cX7_law 27 = .ok (.iload_n 1, 1) := dk_27 (dk_at dksX7_law_1 4 rfl rfl)
theorem dX7_law_28 : decode cX7_law 28 = .ok (.putfield 136, 3) := dk_181 0 136 (dk_at dksX7_law_1 5 rfl rfl)
theorem dX7_law_31 : decode cX7_law 31 = .ok (.aload_n 0, 1) := dk_42 (dk_at dksX7_law_1 8 rfl rfl)
theorem dX7_law_32 : decode cX7_law 32 = .ok (.iconst 0, 1) := dk_3 (dk_at dksX7_law_1 9 rfl rfl)
theorem dX7_law_33 : decode cX7_law 33 = .ok (.putfield 156, 3) := dk_181 0 156 (dk_at dksX7_law_1 10 rfl rfl)
theorem dX7_law_36 : decode cX7_law 36 = .ok (.aload_n 0, 1) := dk_42 (dk_at dksX7_law_1 13 rfl rfl)
theorem dX7_law_37 : decode cX7_law 37 = .ok (.iconst 0, 1) := dk_3 (dk_at dksX7_law_1 14 rfl rfl)
theorem dX7_law_38 : decode cX7_law 38 = .ok (.putfield 213, 3) := dk_181 0 213 (dk_at dksX7_law_1 15 rfl rfl)
theorem dX7_law_41 : decode cX7_law 41 = .ok (.aload_n 0, 1) := dk_42 (dk_at dksX7_law_1 18 rfl rfl)
theorem dX7_law_42 : decode cX7_law 42 = .ok (.invokevirtual 219, 3) := dk_182 0 219 (dk_at dksX7_law_1 19 rfl rfl)
theorem dX7_law_45 : decode cX7_law 45 = .ok (.istore_n 2, 1) := dk_61 (dk_at dksX7_law_1 22 rfl rfl)
theorem dX7_law_46 : decode cX7_law 46 = .ok (.iload_n 2, 1) := dk_28 (dk_at dksX7_law_1 23 rfl rfl)
theorem dX7_law_47 : decode cX7_law 47 = .ok (.ifCond .eq 39, 3) := dk_153 0 39 (dk_at dksX7_law_2 0 rfl rfl)
theorem dX7_law_50 : decode cX7_law 50 = .ok (.aload_n 0, 1) := dk_42 (dk_at dksX7_law_2 3 rfl rfl)
theorem dX7_law_51 : decode cX7_law 51 = .ok (.getfield 133, 3) := dk_180 0 133 (dk_at dksX7_law_2 4 rfl rfl)
theorem dX7_law_54 : decode cX7_law 54 = .ok (.aload_n 0, 1) := dk_42 (dk_at dksX7_law_2 7 rfl rfl)
theorem dX7_law_55 : decode cX7_law 55 = .ok (.getfield 136, 3) := dk_180 0 136 (dk_at dksX7_law_2 8 rfl rfl)
theorem dX7_law_58 : decode cX7_law 58 = .ok (.if_icmp .ge 28, 3) := dk_162 0 28 (dk_at dksX7_law_2 11 rfl rfl)
theorem dX7_law_61 : decode cX7_law 61 = .ok (.aload_n 0, 1) := dk_42 (dk_at dksX7_law_2 14 rfl rfl)
theorem dX7_law_62 : decode cX7_law 62 = .ok (.bipush 59, 2) := dk_16 59 (dk_at dksX7_law_2 15 rfl rfl)
theorem dX7_law_64 : decode cX7_law 64 = .ok (.invokevirtual 222, 3) := dk_182 0 222 (dk_at dksX7_law_2 17 rfl rfl)
theorem dX7_law_67 : decode cX7_law 67 = .ok (.ifCond .eq 14, 3) := dk_153 0 14 (dk_at dksX7_law_2 20 rfl rfl)
theorem dX7_law_70 : decode cX7_law 70 = .ok (.aload_n 0, 1) := dk_42 (dk_at dksX7_law_2 23 rfl rfl)
theorem dX7_law_71 : decode cX7_law 71 = .ok (.invokevirtual 219, 3) := dk_182 0 219 (dk_at dksX7_law_3 0 rfl rfl)
theorem dX7_law_74 : decode cX7_law 74 = .ok (.ifCond .eq 7, 3) := dk_153 0 7 (dk_at dksX7_law_3 3 rfl rfl)
theorem dX7_law_77 : decode cX7_law 77 = .ok (.iconst 1, 1) := dk_4 (dk_at dksX7_law_3 6 rfl rfl)
theorem dX7_law_78 : decode cX7_law 78 = .ok (.goto 4, 3) := dk_167 0 4 (dk_at dksX7_law_3 7 rfl rfl)
theorem dX7_law_81 : decode cX7_law 81 = .ok (.iconst 0, 1) := dk_3 (dk_at dksX7_law_3 10 rfl rfl)
theorem dX7_law_82 : decode cX7_law 82 = .ok (.istore_n 2, 1) := dk_61 (dk_at dksX7_law_3 11 rfl rfl)
theorem dX7_law_83 : decode cX7_law 83 = .ok (.goto (-37), 3) := dk_167 255 219 (dk_at dksX7_law_3 12 rfl rfl)
theorem dX7_law_86 : decode cX7_law 86 = .ok (.aload_n 0, 1) := dk_42 (dk_at dksX7_law_3 15 rfl rfl)
theorem dX7_law_87 : decode cX7_law 87 = .ok (.iconst 0, 1) := dk_3 (dk_at dksX7_law_3 16 rfl rfl)
theorem dX7_law_88 : decode cX7_law 88 = .ok (.putfield 126, 3) := dk_181 0 126 (dk_at dksX7_law_3 17 rfl rfl)
theorem dX7_law_91 : decode cX7_law 91 = .ok (.iload_n 2, 1) := dk_28 (dk_at dksX7_law_3 20 rfl rfl)
theorem dX7_law_92 : decode cX7_law 92 = .ok (.ifCond .ne 8, 3) := dk_154 0 8 (dk_at dksX7_law_3 21 rfl rfl)
theorem dX7_law_95 : decode cX7_law 95 = .ok (.aload_n 0, 1) := dk_42 (dk_at dksX7_law_4 0 rfl rfl)
theorem dX7_law_96 : decode cX7_law 96 = .ok (.getfield 143, 3) := dk_180 0 143 (dk_at dksX7_law_4 1 rfl rfl)
theorem dX7_law_99 : decode cX7_law 99 = .ok (.ireturn, 1) := dk_172 (dk_at dksX7_law_4 4 rfl rfl)
theorem dX7_law_100 : decode cX7_law 100 = .ok (.aload_n 0, 1) := dk_42 (dk_at dksX7_law_4 5 rfl rfl)
theorem dX7_law_101 : decode cX7_law 101 = .ok (.aload_n 0, 1) := dk_42 (dk_at dksX7_law_4 6 rfl rfl)
theorem dX7_law_102 : decode cX7_law 102 = .ok (.getfield 213, 3) := dk_180 0 213 (dk_at dksX7_law_4 7 rfl rfl)
theorem dX7_law_105 : decode cX7_law 105 = .ok (.putfield 225, 3) := dk_181 0 225 (dk_at dksX7_law_4 10 rfl rfl)
theorem dX7_law_108 : decode cX7_law 108 = .ok (.iconst 0, 1) := dk_3 (dk_at dksX7_law_4 13 rfl rfl)
theorem dX7_law_109 : decode cX7_law 109 = .ok (.istore_n 3, 1) := dk_62 (dk_at dksX7_law_4 14 rfl rfl)
theorem dX7_law_110 : decode cX7_law 110 = .ok (.iload_n 3, 1) := dk_29 (dk_at dksX7_law_4 15 rfl rfl)
theorem dX7_law_111 : decode cX7_law 111 = .ok (.aload_n 0, 1) := dk_42 (dk_at dksX7_law_4 16 rfl rfl)
theorem dX7_law_112 : decode cX7_law 112 = .ok (.getfield 156, 3) := dk_180 0 156 (dk_at dksX7_law_4 17 rfl rfl)
theorem dX7_law_115 : decode cX7_law 115 = .ok (.if_icmp .ge 21, 3) := dk_162 0 21 (dk_at dksX7_law_4 20 rfl rfl)
theorem dX7_law_118 : decode cX7_law 118 = .ok (.aload_n 0, 1) := dk_42 (dk_at dksX7_law_4 23 rfl rfl)
theorem dX7_law_119 : decode cX7_law 119 = .ok (.getfield 41, 3) := dk_180 0 41 (dk_at dksX7_law_5 0 rfl rfl)
theorem dX7_law_122 : decode cX7_law 122 = .ok (.iload_n 3, 1) := dk_29 (dk_at dksX7_law_5 3 rfl rfl)
theorem dX7_law_123 : decode cX7_law 123 = .ok (.aload_n 0, 1) := dk_42 (dk_at dksX7_law_5 4 rfl rfl)
theorem dX7_law_124 : decode cX7_law 124 = .ok (.getfield 23, 3) := dk_180 0 23 (dk_at dksX7_law_5 5 rfl rfl)
theorem dX7_law_127 : decode cX7_law 127 = .ok (.iload_n 3, 1) := dk_29 (dk_at dksX7_law_5 8 rfl rfl)
theorem dX7_law_128 : decode cX7_law 128 = .ok (.iaload, 1) := dk_46 (dk_at dksX7_law_5 9 rfl rfl)
theorem dX7_law_129 : decode cX7_law 129 = .ok (.iastore, 1) := dk_79 (dk_at dksX7_law_5 10 rfl rfl)
theorem dX7_law_130 : decode cX7_law 130 = .ok (.iinc 3 1, 3) := dk_132 3 1 (dk_at dksX7_law_5 11 rfl rfl)
theorem dX7_law_133 : decode cX7_law 133 = .ok (.goto (-23), 3) := dk_167 255 233 (dk_at dksX7_law_5 14 rfl rfl)
theorem dX7_law_136 : decode cX7_law 136 = .ok (.iconst 0, 1) := dk_3 (dk_at dksX7_law_5 17 rfl rfl)
theorem dX7_law_137 : decode cX7_law 137 = .ok (.istore_n 3, 1) := dk_62 (dk_at dksX7_law_5 18 rfl rfl)
theorem dX7_law_138 : decode cX7_law 138 = .ok (.iload_n 3, 1) := dk_29 (dk_at dksX7_law_5 19 rfl rfl)
theorem dX7_law_139 : decode cX7_law 139 = .ok (.aload_n 0, 1) := dk_42 (dk_at dksX7_law_5 20 rfl rfl)
theorem dX7_law_140 : decode cX7_law 140 = .ok (.getfield 213, 3) := dk_180 0 213 (dk_at dksX7_law_5 21 rfl rfl)
theorem dX7_law_143 : decode cX7_law 143 = .ok (.if_icmp .ge 57, 3) := dk_162 0 57 (dk_at dksX7_law_6 0 rfl rfl)
theorem dX7_law_146 : decode cX7_law 146 = .ok (.aload_n 0, 1) := dk_42 (dk_at dksX7_law_6 3 rfl rfl)
theorem dX7_law_147 : decode cX7_law 147 = .ok (.getfield 44, 3) := dk_180 0 44 (dk_at dksX7_law_6 4 rfl rfl)
theorem dX7_law_150 : decode cX7_law 150 = .ok (.iload_n 3, 1) := dk_29 (dk_at dksX7_law_6 7 rfl rfl)
theorem dX7_law_151 : decode cX7_law 151 = .ok (.aload_n 0, 1) := dk_42 (dk_at dksX7_law_6 8 rfl rfl)
theorem dX7_law_152 : decode cX7_law 152 = .ok (.getfield 29, 3) := dk_180 0 29 (dk_at dksX7_law_6 9 rfl rfl)
theorem dX7_law_155 : decode cX7_law 155 = .ok (.iload_n 3, 1) := dk_29 (dk_at dksX7_law_6 12 rfl rfl)
theorem dX7_law_156 : decode cX7_law 156 = .ok (.iaload, 1) := dk_46 (dk_at dksX7_law_6 13 rfl rfl)
theorem dX7_law_157 : decode cX7_law 157 = .ok (.iastore, 1) := dk_79 (dk_at dksX7_law_6 14 rfl rfl)
theorem dX7_law_158 : decode cX7_law 158 = .ok (.aload_n 0, 1) := dk_42 (dk_at dksX7_law_6 15 rfl rfl)
theorem dX7_law_159 : decode cX7_law 159 = .ok (.getfield 47, 3) := dk_180 0 47 (dk_at dksX7_law_6 16 rfl rfl)
theorem dX7_law_162 : decode cX7_law 162 = .ok (.iload_n 3, 1) := dk_29 (dk_at dksX7_law_6 19 rfl rfl)
theorem dX7_law_163 : decode cX7_law 163 = .ok (.aload_n 0, 1) := dk_42 (dk_at dksX7_law_6 20 rfl rfl)
theorem dX7_law_164 : decode cX7_law 164 = .ok (.getfield 32, 3) := dk_180 0 32 (dk_at dksX7_law_6 21 rfl rfl)
theorem dX7_law_167 : decode cX7_law 167 = .ok (.iload_n 3, 1) := dk_29 (dk_at dksX7_law_7 0 rfl rfl)
theorem dX7_law_168 : decode cX7_law 168 = .ok (.iaload, 1) := dk_46 (dk_at dksX7_law_7 1 rfl rfl)
theorem dX7_law_169 : decode cX7_law 169 = .ok (.iastore, 1) := dk_79 (dk_at dksX7_law_7 2 rfl rfl)
theorem dX7_law_170 : decode cX7_law 170 = .ok (.aload_n 0, 1) := dk_42 (dk_at dksX7_law_7 3 rfl rfl)
theorem dX7_law_171 : decode cX7_law 171 = .ok (.getfield 50, 3) := dk_180 0 50 (dk_at dksX7_law_7 4 rfl rfl)
theorem dX7_law_174 : decode cX7_law 174 = .ok (.iload_n 3, 1) := dk_29 (dk_at dksX7_law_7 7 rfl rfl)
theorem dX7_law_175 : decode cX7_law 175 = .ok (.aload_n 0, 1) := dk_42 (dk_at dksX7_law_7 8 rfl rfl)
theorem dX7_law_176 : decode cX7_law 176 = .ok (.getfield 35, 3) := dk_180 0 35 (dk_at dksX7_law_7 9 rfl rfl)
theorem dX7_law_179 : decode cX7_law 179 = .ok (.iload_n 3, 1) := dk_29 (dk_at dksX7_law_7 12 rfl rfl)
theorem dX7_law_180 : decode cX7_law 180 = .ok (.iaload, 1) := dk_46 (dk_at dksX7_law_7 13 rfl rfl)
theorem dX7_law_181 : decode cX7_law 181 = .ok (.iastore, 1) := dk_79 (dk_at dksX7_law_7 14 rfl rfl)
theorem dX7_law_182 : decode cX7_law 182 = .ok (.aload_n 0, 1) := dk_42 (dk_at dksX7_law_7 15 rfl rfl)
theorem dX7_law_183 : decode cX7_law 183 = .ok (.getfield 53, 3) := dk_180 0 53 (dk_at dksX7_law_7 16 rfl rfl)
theorem dX7_law_186 : decode cX7_law 186 = .ok (.iload_n 3, 1) := dk_29 (dk_at dksX7_law_7 19 rfl rfl)
theorem dX7_law_187 : decode cX7_law 187 = .ok (.aload_n 0, 1) := dk_42 (dk_at dksX7_law_7 20 rfl rfl)
theorem dX7_law_188 : decode cX7_law 188 = .ok (.getfield 38, 3) := dk_180 0 38 (dk_at dksX7_law_7 21 rfl rfl)
theorem dX7_law_191 : decode cX7_law 191 = .ok (.iload_n 3, 1) := dk_29 (dk_at dksX7_law_8 0 rfl rfl)
theorem dX7_law_192 : decode cX7_law 192 = .ok (.iaload, 1) := dk_46 (dk_at dksX7_law_8 1 rfl rfl)
theorem dX7_law_193 : decode cX7_law 193 = .ok (.iastore, 1) := dk_79 (dk_at dksX7_law_8 2 rfl rfl)
theorem dX7_law_194 : decode cX7_law 194 = .ok (.iinc 3 1, 3) := dk_132 3 1 (dk_at dksX7_law_8 3 rfl rfl)
theorem dX7_law_197 : decode cX7_law 197 = .ok (.goto (-59), 3) := dk_167 255 197 (dk_at dksX7_law_8 6 rfl rfl)
theorem dX7_law_200 : decode cX7_law 200 = .ok (.aload_n 0, 1) := dk_42 (dk_at dksX7_law_8 9 rfl rfl)
theorem dX7_law_201 : decode cX7_law 201 = .ok (.getfield 213, 3) := dk_180 0 213 (dk_at dksX7_law_8 10 rfl rfl)
theorem dX7_law_204 : decode cX7_law 204 = .ok (.ireturn, 1) := dk_172 (dk_at dksX7_law_8 13 rfl rfl)
abbrev cX7_readsClause : ByteArray := prog_21_method_41_code
def yX7_readsClause : MethodName := ⟨RX7, "readsClause", "()Z"⟩
def dkwX7_readsClause_5 : List UInt8 := [180, 0, 38, 42, 180, 0, 213, 42, 180, 0, 156, 79, 42, 42, 180, 0, 213, 4, 96, 181, 0, 213, 4, 172]
abbrev dktX7_readsClause_5 : List UInt8 := dkwX7_readsClause_5 ++ []
def dkwX7_readsClause_4 : List UInt8 := [180, 0, 35, 42, 180, 0, 213, 42, 180, 0, 156, 79, 42, 182, 0, 216, 154, 0, 5, 3, 172, 42]
abbrev dktX7_readsClause_4 : List UInt8 := dkwX7_readsClause_4 ++ dktX7_readsClause_5
def dkwX7_readsClause_3 : List UInt8 := [180, 0, 156, 79, 42, 3, 181, 0, 160, 42, 3, 181, 0, 163, 42, 182, 0, 195, 154, 0, 5, 3, 172, 42]
abbrev dktX7_readsClause_3 : List UInt8 := dkwX7_readsClause_3 ++ dktX7_readsClause_4
def dkwX7_readsClause_2 : List UInt8 := [180, 0, 213, 27, 79, 42, 42, 180, 0, 133, 4, 96, 181, 0, 133, 42, 180, 0, 32, 42, 180, 0, 213, 42]
abbrev dktX7_readsClause_2 : List UInt8 := dkwX7_readsClause_2 ++ dktX7_readsClause_3
def dkwX7_readsClause_1 : List UInt8 := [180, 0, 213, 16, 16, 160, 0, 13, 42, 7, 42, 180, 0, 133, 182, 0, 146, 172, 42, 180, 0, 29, 42]
abbrev dktX7_readsClause_1 : List UInt8 := dkwX7_readsClause_1 ++ dktX7_readsClause_2
def dkwX7_readsClause_0 : List UInt8 := [42, 182, 0, 139, 60, 27, 184, 0, 210, 154, 0, 13, 42, 4, 42, 180, 0, 133, 182, 0, 146, 172, 42]
abbrev dktX7_readsClause_0 : List UInt8 := dkwX7_readsClause_0 ++ dktX7_readsClause_1
theorem dksX7_readsClause_0 : cX7_readsClause.data.toList.drop 0 = dktX7_readsClause_0 := by decide +kernel
theorem dksX7_readsClause_1 : cX7_readsClause.data.toList.drop 23 = dktX7_readsClause_1 := dk_seg dksX7_readsClause_0 23 rfl rfl
theorem dksX7_readsClause_2 : cX7_readsClause.data.toList.drop 46 = dktX7_readsClause_2 := dk_seg dksX7_readsClause_1 23 rfl rfl
theorem dksX7_readsClause_3 : cX7_readsClause.data.toList.drop 70 = dktX7_readsClause_3 := dk_seg dksX7_readsClause_2 24 rfl rfl
theorem dksX7_readsClause_4 : cX7_readsClause.data.toList.drop 94 = dktX7_readsClause_4 := dk_seg dksX7_readsClause_3 24 rfl rfl
theorem dksX7_readsClause_5 : cX7_readsClause.data.toList.drop 116 = dktX7_readsClause_5 := dk_seg dksX7_readsClause_4 22 rfl rfl
theorem dX7_readsClause_0 : decode cX7_readsClause 0 = .ok (.aload_n 0, 1) := dk_42 (dk_at dksX7_readsClause_0 0 rfl rfl)
theorem dX7_readsClause_1 : decode cX7_readsClause 1 = .ok (.invokevirtual 139, 3) := dk_182 0 139 (dk_at dksX7_readsClause_0 1 rfl rfl)
theorem dX7_readsClause_4 : decode cX7_readsClause 4 = .ok (.istore_n 1, 1) := dk_60 (dk_at dksX7_readsClause_0 4 rfl rfl)
theorem dX7_readsClause_5 : decode cX7_readsClause 5 = .ok (.iload_n 1, 1) := dk_27 (dk_at dksX7_readsClause_0 5 rfl rfl)
theorem dX7_readsClause_6 : decode cX7_readsClause 6 = .ok (.invokestatic 210, 3) := dk_184 0 210 (dk_at dksX7_readsClause_0 6 rfl rfl)
theorem dX7_readsClause_9 : decode cX7_readsClause 9 = .ok (.ifCond .ne 13, 3) := dk_154 0 13 (dk_at dksX7_readsClause_0 9 rfl rfl)
theorem dX7_readsClause_12 : decode cX7_readsClause 12 = .ok (.aload_n 0, 1) := dk_42 (dk_at dksX7_readsClause_0 12 rfl rfl)
theorem dX7_readsClause_13 : decode cX7_readsClause 13 = .ok (.iconst 1, 1) := dk_4 (dk_at dksX7_readsClause_0 13 rfl rfl)
theorem dX7_readsClause_14 : decode cX7_readsClause 14 = .ok (.aload_n 0, 1) := dk_42 (dk_at dksX7_readsClause_0 14 rfl rfl)
theorem dX7_readsClause_15 : decode cX7_readsClause 15 = .ok (.getfield 133, 3) := dk_180 0 133 (dk_at dksX7_readsClause_0 15 rfl rfl)
theorem dX7_readsClause_18 : decode cX7_readsClause 18 = .ok (.invokevirtual 146, 3) := dk_182 0 146 (dk_at dksX7_readsClause_0 18 rfl rfl)
theorem dX7_readsClause_21 : decode cX7_readsClause 21 = .ok (.ireturn, 1) := dk_172 (dk_at dksX7_readsClause_0 21 rfl rfl)
theorem dX7_readsClause_22 : decode cX7_readsClause 22 = .ok (.aload_n 0, 1) := dk_42 (dk_at dksX7_readsClause_0 22 rfl rfl)
theorem dX7_readsClause_23 : decode cX7_readsClause 23 = .ok (.getfield 213, 3) := dk_180 0 213 (dk_at dksX7_readsClause_1 0 rfl rfl)
theorem dX7_readsClause_26 : decode cX7_readsClause 26 = .ok (.bipush 16, 2) := dk_16 16 (dk_at dksX7_readsClause_1 3 rfl rfl)
theorem dX7_readsClause_28 : decode cX7_readsClause 28 = .ok (.if_icmp .ne 13, 3) := dk_160 0 13 (dk_at dksX7_readsClause_1 5 rfl rfl)
theorem dX7_readsClause_31 : decode cX7_readsClause 31 = .ok (.aload_n 0, 1) := dk_42 (dk_at dksX7_readsClause_1 8 rfl rfl)
theorem dX7_readsClause_32 : decode cX7_readsClause 32 = .ok (.iconst 4, 1) := dk_7 (dk_at dksX7_readsClause_1 9 rfl rfl)
theorem dX7_readsClause_33 : decode cX7_readsClause 33 = .ok (.aload_n 0, 1) := dk_42 (dk_at dksX7_readsClause_1 10 rfl rfl)
theorem dX7_readsClause_34 : decode cX7_readsClause 34 = .ok (.getfield 133, 3) := dk_180 0 133 (dk_at dksX7_readsClause_1 11 rfl rfl)
theorem dX7_readsClause_37 : decode cX7_readsClause 37 = .ok (.invokevirtual 146, 3) := dk_182 0 146 (dk_at dksX7_readsClause_1 14 rfl rfl)
theorem dX7_readsClause_40 : decode cX7_readsClause 40 = .ok (.ireturn, 1) := dk_172 (dk_at dksX7_readsClause_1 17 rfl rfl)
theorem dX7_readsClause_41 : decode cX7_readsClause 41 = .ok (.aload_n 0, 1) := dk_42 (dk_at dksX7_readsClause_1 18 rfl rfl)
theorem dX7_readsClause_42 : decode cX7_readsClause 42 = .ok (.getfield 29, 3) := dk_180 0 29 (dk_at dksX7_readsClause_1 19 rfl rfl)
theorem dX7_readsClause_45 : decode cX7_readsClause 45 = .ok (.aload_n 0, 1) := dk_42 (dk_at dksX7_readsClause_1 22 rfl rfl)
theorem dX7_readsClause_46 : decode cX7_readsClause 46 = .ok (.getfield 213, 3) := dk_180 0 213 (dk_at dksX7_readsClause_2 0 rfl rfl)
theorem dX7_readsClause_49 : decode cX7_readsClause 49 = .ok (.iload_n 1, 1) := dk_27 (dk_at dksX7_readsClause_2 3 rfl rfl)
theorem dX7_readsClause_50 : decode cX7_readsClause 50 = .ok (.iastore, 1) := dk_79 (dk_at dksX7_readsClause_2 4 rfl rfl)
theorem dX7_readsClause_51 : decode cX7_readsClause 51 = .ok (.aload_n 0, 1) := dk_42 (dk_at dksX7_readsClause_2 5 rfl rfl)
theorem dX7_readsClause_52 : decode cX7_readsClause 52 = .ok (.aload_n 0, 1) := dk_42 (dk_at dksX7_readsClause_2 6 rfl rfl)
theorem dX7_readsClause_53 : decode cX7_readsClause 53 = .ok (.getfield 133, 3) := dk_180 0 133 (dk_at dksX7_readsClause_2 7 rfl rfl)
theorem dX7_readsClause_56 : decode cX7_readsClause 56 = .ok (.iconst 1, 1) := dk_4 (dk_at dksX7_readsClause_2 10 rfl rfl)
theorem dX7_readsClause_57 : decode cX7_readsClause 57 = .ok (.iadd, 1) := dk_96 (dk_at dksX7_readsClause_2 11 rfl rfl)
theorem dX7_readsClause_58 : decode cX7_readsClause 58 = .ok (.putfield 133, 3) := dk_181 0 133 (dk_at dksX7_readsClause_2 12 rfl rfl)
theorem dX7_readsClause_61 : decode cX7_readsClause 61 = .ok (.aload_n 0, 1) := dk_42 (dk_at dksX7_readsClause_2 15 rfl rfl)
theorem dX7_readsClause_62 : decode cX7_readsClause 62 = .ok (.getfield 32, 3) := dk_180 0 32 (dk_at dksX7_readsClause_2 16 rfl rfl)
theorem dX7_readsClause_65 : decode cX7_readsClause 65 = .ok (.aload_n 0, 1) := dk_42 (dk_at dksX7_readsClause_2 19 rfl rfl)
theorem dX7_readsClause_66 : decode cX7_readsClause 66 = .ok (.getfield 213, 3) := dk_180 0 213 (dk_at dksX7_readsClause_2 20 rfl rfl)
theorem dX7_readsClause_69 : decode cX7_readsClause 69 = .ok (.aload_n 0, 1) := dk_42 (dk_at dksX7_readsClause_2 23 rfl rfl)
theorem dX7_readsClause_70 : decode cX7_readsClause 70 = .ok (.getfield 156, 3) := dk_180 0 156 (dk_at dksX7_readsClause_3 0 rfl rfl)
theorem dX7_readsClause_73 : decode cX7_readsClause 73 = .ok (.iastore, 1) := dk_79 (dk_at dksX7_readsClause_3 3 rfl rfl)
theorem dX7_readsClause_74 : decode cX7_readsClause 74 = .ok (.aload_n 0, 1) := dk_42 (dk_at dksX7_readsClause_3 4 rfl rfl)
theorem dX7_readsClause_75 : decode cX7_readsClause 75 = .ok (.iconst 0, 1) := dk_3 (dk_at dksX7_readsClause_3 5 rfl rfl)
theorem dX7_readsClause_76 : decode cX7_readsClause 76 = .ok (.putfield 160, 3) := dk_181 0 160 (dk_at dksX7_readsClause_3 6 rfl rfl)
theorem dX7_readsClause_79 : decode cX7_readsClause 79 = .ok (.aload_n 0, 1) := dk_42 (dk_at dksX7_readsClause_3 9 rfl rfl)
theorem dX7_readsClause_80 : decode cX7_readsClause 80 = .ok (.iconst 0, 1) := dk_3 (dk_at dksX7_readsClause_3 10 rfl rfl)
theorem dX7_readsClause_81 : decode cX7_readsClause 81 = .ok (.putfield 163, 3) := dk_181 0 163 (dk_at dksX7_readsClause_3 11 rfl rfl)
theorem dX7_readsClause_84 : decode cX7_readsClause 84 = .ok (.aload_n 0, 1) := dk_42 (dk_at dksX7_readsClause_3 14 rfl rfl)
theorem dX7_readsClause_85 : decode cX7_readsClause 85 = .ok (.invokevirtual 195, 3) := dk_182 0 195 (dk_at dksX7_readsClause_3 15 rfl rfl)
theorem dX7_readsClause_88 : decode cX7_readsClause 88 = .ok (.ifCond .ne 5, 3) := dk_154 0 5 (dk_at dksX7_readsClause_3 18 rfl rfl)
theorem dX7_readsClause_91 : decode cX7_readsClause 91 = .ok (.iconst 0, 1) := dk_3 (dk_at dksX7_readsClause_3 21 rfl rfl)
theorem dX7_readsClause_92 : decode cX7_readsClause 92 = .ok (.ireturn, 1) := dk_172 (dk_at dksX7_readsClause_3 22 rfl rfl)
theorem dX7_readsClause_93 : decode cX7_readsClause 93 = .ok (.aload_n 0, 1) := dk_42 (dk_at dksX7_readsClause_3 23 rfl rfl)
theorem dX7_readsClause_94 : decode cX7_readsClause 94 = .ok (.getfield 35, 3) := dk_180 0 35 (dk_at dksX7_readsClause_4 0 rfl rfl)
theorem dX7_readsClause_97 : decode cX7_readsClause 97 = .ok (.aload_n 0, 1) := dk_42 (dk_at dksX7_readsClause_4 3 rfl rfl)
theorem dX7_readsClause_98 : decode cX7_readsClause 98 = .ok (.getfield 213, 3) := dk_180 0 213 (dk_at dksX7_readsClause_4 4 rfl rfl)
theorem dX7_readsClause_101 : decode cX7_readsClause 101 = .ok (.aload_n 0, 1) := dk_42 (dk_at dksX7_readsClause_4 7 rfl rfl)
theorem dX7_readsClause_102 : decode cX7_readsClause 102 = .ok (.getfield 156, 3) := dk_180 0 156 (dk_at dksX7_readsClause_4 8 rfl rfl)
theorem dX7_readsClause_105 : decode cX7_readsClause 105 = .ok (.iastore, 1) := dk_79 (dk_at dksX7_readsClause_4 11 rfl rfl)
theorem dX7_readsClause_106 : decode cX7_readsClause 106 = .ok (.aload_n 0, 1) := dk_42 (dk_at dksX7_readsClause_4 12 rfl rfl)
theorem dX7_readsClause_107 : decode cX7_readsClause 107 = .ok (.invokevirtual 216, 3) := dk_182 0 216 (dk_at dksX7_readsClause_4 13 rfl rfl)
theorem dX7_readsClause_110 : decode cX7_readsClause 110 = .ok (.ifCond .ne 5, 3) := dk_154 0 5 (dk_at dksX7_readsClause_4 16 rfl rfl)
theorem dX7_readsClause_113 : decode cX7_readsClause 113 = .ok (.iconst 0, 1) := dk_3 (dk_at dksX7_readsClause_4 19 rfl rfl)
theorem dX7_readsClause_114 : decode cX7_readsClause 114 = .ok (.ireturn, 1) := dk_172 (dk_at dksX7_readsClause_4 20 rfl rfl)
theorem dX7_readsClause_115 : decode cX7_readsClause 115 = .ok (.aload_n 0, 1) := dk_42 (dk_at dksX7_readsClause_4 21 rfl rfl)
theorem dX7_readsClause_116 : decode cX7_readsClause 116 = .ok (.getfield 38, 3) := dk_180 0 38 (dk_at dksX7_readsClause_5 0 rfl rfl)
theorem dX7_readsClause_119 : decode cX7_readsClause 119 = .ok (.aload_n 0, 1) := dk_42 (dk_at dksX7_readsClause_5 3 rfl rfl)
theorem dX7_readsClause_120 : decode cX7_readsClause 120 = .ok (.getfield 213, 3) := dk_180 0 213 (dk_at dksX7_readsClause_5 4 rfl rfl)
theorem dX7_readsClause_123 : decode cX7_readsClause 123 = .ok (.aload_n 0, 1) := dk_42 (dk_at dksX7_readsClause_5 7 rfl rfl)
theorem dX7_readsClause_124 : decode cX7_readsClause 124 = .ok (.getfield 156, 3) := dk_180 0 156 (dk_at dksX7_readsClause_5 8 rfl rfl)
theorem dX7_readsClause_127 : decode cX7_readsClause 127 = .ok (.iastore, 1) := dk_79 (dk_at dksX7_readsClause_5 11 rfl rfl)
theorem dX7_readsClause_128 : decode cX7_readsClause 128 = .ok (.aload_n 0, 1) := dk_42 (dk_at dksX7_readsClause_5 12 rfl rfl)
theorem dX7_readsClause_129 : decode cX7_readsClause 129 = .ok (.aload_n 0, 1) := dk_42 (dk_at dksX7_readsClause_5 13 rfl rfl)
theorem dX7_readsClause_130 : decode cX7_readsClause 130 = .ok (.getfield 213, 3) := dk_180 0 213 (dk_at dksX7_readsClause_5 14 rfl rfl)
theorem dX7_readsClause_133 : decode cX7_readsClause 133 = .ok (.iconst 1, 1) := dk_4 (dk_at dksX7_readsClause_5 17 rfl rfl)
theorem dX7_readsClause_134 : decode cX7_readsClause 134 = .ok (.iadd, 1) := dk_96 (dk_at dksX7_readsClause_5 18 rfl rfl)
theorem dX7_readsClause_135 : decode cX7_readsClause 135 = .ok (.putfield 213, 3) := dk_181 0 213 (dk_at dksX7_readsClause_5 19 rfl rfl)
theorem dX7_readsClause_138 : decode cX7_readsClause 138 = .ok (.iconst 1, 1) := dk_4 (dk_at dksX7_readsClause_5 22 rfl rfl)
theorem dX7_readsClause_139 : decode cX7_readsClause 139 = .ok (.ireturn, 1) := dk_172 (dk_at dksX7_readsClause_5 23 rfl rfl)
abbrev cX7_here : ByteArray := prog_21_method_21_code
def yX7_here : MethodName := ⟨RX7, "here", "()I"⟩
def dkwX7_here_1 : List UInt8 := [167, 0, 4, 2, 172]
abbrev dktX7_here_1 : List UInt8 := dkwX7_here_1 ++ []
def dkwX7_here_0 : List UInt8 := [42, 180, 0, 133, 42, 180, 0, 136, 162, 0, 19, 42, 180, 0, 19, 42, 180, 0, 133, 51, 17, 0, 255, 126]
abbrev dktX7_here_0 : List UInt8 := dkwX7_here_0 ++ dktX7_here_1
theorem dksX7_here_0 : cX7_here.data.toList.drop 0 = dktX7_here_0 := by decide +kernel
theorem dksX7_here_1 : cX7_here.data.toList.drop 24 = dktX7_here_1 := dk_seg dksX7_here_0 24 rfl rfl
theorem dX7_here_0 : decode cX7_here 0 = .ok (.aload_n 0, 1) := dk_42 (dk_at dksX7_here_0 0 rfl rfl)
theorem dX7_here_1 : decode cX7_here 1 = .ok (.getfield 133, 3) := dk_180 0 133 (dk_at dksX7_here_0 1 rfl rfl)
theorem dX7_here_4 : decode cX7_here 4 = .ok (.aload_n 0, 1) := dk_42 (dk_at dksX7_here_0 4 rfl rfl)
theorem dX7_here_5 : decode cX7_here 5 = .ok (.getfield 136, 3) := dk_180 0 136 (dk_at dksX7_here_0 5 rfl rfl)
theorem dX7_here_8 : decode cX7_here 8 = .ok (.if_icmp .ge 19, 3) := dk_162 0 19 (dk_at dksX7_here_0 8 rfl rfl)
theorem dX7_here_11 : decode cX7_here 11 = .ok (.aload_n 0, 1) := dk_42 (dk_at dksX7_here_0 11 rfl rfl)
theorem dX7_here_12 : decode cX7_here 12 = .ok (.getfield 19, 3) := dk_180 0 19 (dk_at dksX7_here_0 12 rfl rfl)
theorem dX7_here_15 : decode cX7_here 15 = .ok (.aload_n 0, 1) := dk_42 (dk_at dksX7_here_0 15 rfl rfl)
theorem dX7_here_16 : decode cX7_here 16 = .ok (.getfield 133, 3) := dk_180 0 133 (dk_at dksX7_here_0 16 rfl rfl)
theorem dX7_here_19 : decode cX7_here 19 = .ok (.baload, 1) := dk_51 (dk_at dksX7_here_0 19 rfl rfl)
theorem dX7_here_20 : decode cX7_here 20 = .ok (.sipush 255, 3) := dk_17 0 255 (dk_at dksX7_here_0 20 rfl rfl)
theorem dX7_here_23 : decode cX7_here 23 = .ok (.iand, 1) := dk_126 (dk_at dksX7_here_0 23 rfl rfl)
theorem dX7_here_24 : decode cX7_here 24 = .ok (.goto 4, 3) := dk_167 0 4 (dk_at dksX7_here_1 0 rfl rfl)
theorem dX7_here_27 : decode cX7_here 27 = .ok (.iconst (-1), 1) := dk_2 (dk_at dksX7_here_1 3 rfl rfl)
theorem dX7_here_28 : decode cX7_here 28 = .ok (.ireturn, 1) := dk_172 (dk_at dksX7_here_1 4 rfl rfl)
abbrev cX7_isClause : ByteArray := prog_21_method_40_code
def yX7_isClause : MethodName := ⟨RX7, "isClause", "(I)Z"⟩
def dkwX7_isClause_1 : List UInt8 := [26, 16, 98, 160, 0, 7, 4, 167, 0, 4, 3, 172]
abbrev dktX7_isClause_1 : List UInt8 := dkwX7_isClause_1 ++ []
def dkwX7_isClause_0 : List UInt8 := [26, 16, 102, 159, 0, 27, 26, 16, 108, 159, 0, 21, 26, 16, 119, 159, 0, 15, 26, 16, 99, 159, 0, 9]
abbrev dktX7_isClause_0 : List UInt8 := dkwX7_isClause_0 ++ dktX7_isClause_1
theorem dksX7_isClause_0 : cX7_isClause.data.toList.drop 0 = dktX7_isClause_0 := by decide +kernel
theorem dksX7_isClause_1 : cX7_isClause.data.toList.drop 24 = dktX7_isClause_1 := dk_seg dksX7_isClause_0 24 rfl rfl
theorem dX7_isClause_0 : decode cX7_isClause 0 = .ok (.iload_n 0, 1) := dk_26 (dk_at dksX7_isClause_0 0 rfl rfl)
theorem dX7_isClause_1 : decode cX7_isClause 1 = .ok (.bipush 102, 2) := dk_16 102 (dk_at dksX7_isClause_0 1 rfl rfl)
theorem dX7_isClause_3 : decode cX7_isClause 3 = .ok (.if_icmp .eq 27, 3) := dk_159 0 27 (dk_at dksX7_isClause_0 3 rfl rfl)
theorem dX7_isClause_6 : decode cX7_isClause 6 = .ok (.iload_n 0, 1) := dk_26 (dk_at dksX7_isClause_0 6 rfl rfl)
theorem dX7_isClause_7 : decode cX7_isClause 7 = .ok (.bipush 108, 2) := dk_16 108 (dk_at dksX7_isClause_0 7 rfl rfl)
theorem dX7_isClause_9 : decode cX7_isClause 9 = .ok (.if_icmp .eq 21, 3) := dk_159 0 21 (dk_at dksX7_isClause_0 9 rfl rfl)
theorem dX7_isClause_12 : decode cX7_isClause 12 = .ok (.iload_n 0, 1) := dk_26 (dk_at dksX7_isClause_0 12 rfl rfl)
theorem dX7_isClause_13 : decode cX7_isClause 13 = .ok (.bipush 119, 2) := dk_16 119 (dk_at dksX7_isClause_0 13 rfl rfl)
theorem dX7_isClause_15 : decode cX7_isClause 15 = .ok (.if_icmp .eq 15, 3) := dk_159 0 15 (dk_at dksX7_isClause_0 15 rfl rfl)
theorem dX7_isClause_18 : decode cX7_isClause 18 = .ok (.iload_n 0, 1) := dk_26 (dk_at dksX7_isClause_0 18 rfl rfl)
theorem dX7_isClause_19 : decode cX7_isClause 19 = .ok (.bipush 99, 2) := dk_16 99 (dk_at dksX7_isClause_0 19 rfl rfl)
theorem dX7_isClause_21 : decode cX7_isClause 21 = .ok (.if_icmp .eq 9, 3) := dk_159 0 9 (dk_at dksX7_isClause_0 21 rfl rfl)
theorem dX7_isClause_24 : decode cX7_isClause 24 = .ok (.iload_n 0, 1) := dk_26 (dk_at dksX7_isClause_1 0 rfl rfl)
theorem dX7_isClause_25 : decode cX7_isClause 25 = .ok (.bipush 98, 2) := dk_16 98 (dk_at dksX7_isClause_1 1 rfl rfl)
theorem dX7_isClause_27 : decode cX7_isClause 27 = .ok (.if_icmp .ne 7, 3) := dk_160 0 7 (dk_at dksX7_isClause_1 3 rfl rfl)
theorem dX7_isClause_30 : decode cX7_isClause 30 = .ok (.iconst 1, 1) := dk_4 (dk_at dksX7_isClause_1 6 rfl rfl)
theorem dX7_isClause_31 : decode cX7_isClause 31 = .ok (.goto 4, 3) := dk_167 0 4 (dk_at dksX7_isClause_1 7 rfl rfl)
theorem dX7_isClause_34 : decode cX7_isClause 34 = .ok (.iconst 0, 1) := dk_3 (dk_at dksX7_isClause_1 10 rfl rfl)
theorem dX7_isClause_35 : decode cX7_isClause 35 = .ok (.ireturn, 1) := dk_172 (dk_at dksX7_isClause_1 11 rfl rfl)
abbrev cX7_wrongAt : ByteArray := prog_21_method_23_code
def yX7_wrongAt : MethodName := ⟨RX7, "wrongAt", "(II)Z"⟩
def dkwX7_wrongAt_0 : List UInt8 := [42, 17, 252, 24, 27, 104, 28, 100, 181, 0, 143, 3, 172]
abbrev dktX7_wrongAt_0 : List UInt8 := dkwX7_wrongAt_0 ++ []
theorem dksX7_wrongAt_0 : cX7_wrongAt.data.toList.drop 0 = dktX7_wrongAt_0 := by decide +kernel
theorem dX7_wrongAt_0 : decode cX7_wrongAt 0 = .ok (.aload_n 0, 1) := dk_42 (dk_at dksX7_wrongAt_0 0 rfl rfl)
theorem dX7_wrongAt_1 : decode cX7_wrongAt 1 = .ok (.sipush (-1000), 3) := dk_17 252 24 (dk_at dksX7_wrongAt_0 1 rfl rfl)
theorem dX7_wrongAt_4 : decode cX7_wrongAt 4 = .ok (.iload_n 1, 1) := dk_27 (dk_at dksX7_wrongAt_0 4 rfl rfl)
theorem dX7_wrongAt_5 : decode cX7_wrongAt 5 = .ok (.imul, 1) := dk_104 (dk_at dksX7_wrongAt_0 5 rfl rfl)
theorem dX7_wrongAt_6 : decode cX7_wrongAt 6 = .ok (.iload_n 2, 1) := dk_28 (dk_at dksX7_wrongAt_0 6 rfl rfl)
theorem dX7_wrongAt_7 : decode cX7_wrongAt 7 = .ok (.isub, 1) := dk_100 (dk_at dksX7_wrongAt_0 7 rfl rfl)
theorem dX7_wrongAt_8 : decode cX7_wrongAt 8 = .ok (.putfield 143, 3) := dk_181 0 143 (dk_at dksX7_wrongAt_0 8 rfl rfl)
theorem dX7_wrongAt_11 : decode cX7_wrongAt 11 = .ok (.iconst 0, 1) := dk_3 (dk_at dksX7_wrongAt_0 11 rfl rfl)
theorem dX7_wrongAt_12 : decode cX7_wrongAt 12 = .ok (.ireturn, 1) := dk_172 (dk_at dksX7_wrongAt_0 12 rfl rfl)
abbrev cX7_readsSum : ByteArray := prog_21_method_34_code
def yX7_readsSum : MethodName := ⟨RX7, "readsSum", "()Z"⟩
def dkwX7_readsSum_7 : List UInt8 := [167, 255, 107]
abbrev dktX7_readsSum_7 : List UInt8 := dkwX7_readsSum_7 ++ []
def dkwX7_readsSum_6 : List UInt8 := [182, 0, 192, 153, 0, 13, 42, 4, 42, 180, 0, 133, 182, 0, 146, 172, 42, 4, 182, 0, 188, 4, 172]
abbrev dktX7_readsSum_6 : List UInt8 := dkwX7_readsSum_6 ++ dktX7_readsSum_7
def dkwX7_readsSum_5 : List UInt8 := [180, 0, 160, 4, 100, 181, 0, 160, 42, 42, 180, 0, 133, 4, 96, 181, 0, 133, 167, 0, 28, 42, 27]
abbrev dktX7_readsSum_5 : List UInt8 := dkwX7_readsSum_5 ++ dktX7_readsSum_6
def dkwX7_readsSum_4 : List UInt8 := [182, 0, 192, 153, 0, 41, 42, 4, 182, 0, 188, 42, 42, 180, 0, 163, 4, 100, 181, 0, 163, 42, 42]
abbrev dktX7_readsSum_4 : List UInt8 := dkwX7_readsSum_4 ++ dktX7_readsSum_5
def dkwX7_readsSum_3 : List UInt8 := [96, 181, 0, 133, 42, 182, 0, 182, 154, 0, 85, 3, 172, 42, 182, 0, 139, 16, 93, 160, 0, 49, 42, 27]
abbrev dktX7_readsSum_3 : List UInt8 := dkwX7_readsSum_3 ++ dktX7_readsSum_4
def dkwX7_readsSum_2 : List UInt8 := [180, 0, 163, 18, 159, 28, 104, 79, 42, 42, 180, 0, 163, 4, 96, 181, 0, 163, 42, 42, 180, 0, 133, 4]
abbrev dktX7_readsSum_2 : List UInt8 := dkwX7_readsSum_2 ++ dktX7_readsSum_3
def dkwX7_readsSum_1 : List UInt8 := [159, 0, 59, 42, 28, 7, 162, 0, 7, 4, 167, 0, 4, 3, 182, 0, 188, 42, 180, 0, 26, 42]
abbrev dktX7_readsSum_1 : List UInt8 := dkwX7_readsSum_1 ++ dktX7_readsSum_2
def dkwX7_readsSum_0 : List UInt8 := [42, 180, 0, 163, 60, 42, 182, 0, 182, 154, 0, 5, 3, 172, 42, 182, 0, 139, 184, 0, 185, 61, 28, 2]
abbrev dktX7_readsSum_0 : List UInt8 := dkwX7_readsSum_0 ++ dktX7_readsSum_1
theorem dksX7_readsSum_0 : cX7_readsSum.data.toList.drop 0 = dktX7_readsSum_0 := by decide +kernel
theorem dksX7_readsSum_1 : cX7_readsSum.data.toList.drop 24 = dktX7_readsSum_1 := dk_seg dksX7_readsSum_0 24 rfl rfl
theorem dksX7_readsSum_2 : cX7_readsSum.data.toList.drop 46 = dktX7_readsSum_2 := dk_seg dksX7_readsSum_1 22 rfl rfl
theorem dksX7_readsSum_3 : cX7_readsSum.data.toList.drop 70 = dktX7_readsSum_3 := dk_seg dksX7_readsSum_2 24 rfl rfl
theorem dksX7_readsSum_4 : cX7_readsSum.data.toList.drop 94 = dktX7_readsSum_4 := dk_seg dksX7_readsSum_3 24 rfl rfl
theorem dksX7_readsSum_5 : cX7_readsSum.data.toList.drop 117 = dktX7_readsSum_5 := dk_seg dksX7_readsSum_4 23 rfl rfl
theorem dksX7_readsSum_6 : cX7_readsSum.data.toList.drop 140 = dktX7_readsSum_6 := dk_seg dksX7_readsSum_5 23 rfl rfl
theorem dksX7_readsSum_7 : cX7_readsSum.data.toList.drop 163 = dktX7_readsSum_7 := dk_seg dksX7_readsSum_6 23 rfl rfl
theorem dX7_readsSum_0 : decode cX7_readsSum 0 = .ok (.aload_n 0, 1) := dk_42 (dk_at dksX7_readsSum_0 0 rfl rfl)
theorem dX7_readsSum_1 : decode cX7_readsSum 1 = .ok (.getfield 163, 3) := dk_180 0 163 (dk_at dksX7_readsSum_0 1 rfl rfl)
theorem dX7_readsSum_4 : decode cX7_readsSum 4 = .ok (.istore_n 1, 1) := dk_60 (dk_at dksX7_readsSum_0 4 rfl rfl)
theorem dX7_readsSum_5 : decode cX7_readsSum 5 = .ok (.aload_n 0, 1) := dk_42 (dk_at dksX7_readsSum_0 5 rfl rfl)
theorem dX7_readsSum_6 : decode cX7_readsSum 6 = .ok (.invokevirtual 182, 3) := dk_182 0 182 (dk_at dksX7_readsSum_0 6 rfl rfl)
theorem dX7_readsSum_9 : decode cX7_readsSum 9 = .ok (.ifCond .ne 5, 3) := dk_154 0 5 (dk_at dksX7_readsSum_0 9 rfl rfl)
theorem dX7_readsSum_12 : decode cX7_readsSum 12 = .ok (.iconst 0, 1) := dk_3 (dk_at dksX7_readsSum_0 12 rfl rfl)
theorem dX7_readsSum_13 : decode cX7_readsSum 13 = .ok (.ireturn, 1) := dk_172 (dk_at dksX7_readsSum_0 13 rfl rfl)
theorem dX7_readsSum_14 : decode cX7_readsSum 14 = .ok (.aload_n 0, 1) := dk_42 (dk_at dksX7_readsSum_0 14 rfl rfl)
theorem dX7_readsSum_15 : decode cX7_readsSum 15 = .ok (.invokevirtual 139, 3) := dk_182 0 139 (dk_at dksX7_readsSum_0 15 rfl rfl)
theorem dX7_readsSum_18 : decode cX7_readsSum 18 = .ok (.invokestatic 185, 3) := dk_184 0 185 (dk_at dksX7_readsSum_0 18 rfl rfl)
theorem dX7_readsSum_21 : decode cX7_readsSum 21 = .ok (.istore_n 2, 1) := dk_61 (dk_at dksX7_readsSum_0 21 rfl rfl)
theorem dX7_readsSum_22 : decode cX7_readsSum 22 = .ok (.iload_n 2, 1) := dk_28 (dk_at dksX7_readsSum_0 22 rfl rfl)
theorem dX7_readsSum_23 : decode cX7_readsSum 23 = .ok (.iconst (-1), 1) := dk_2 (dk_at dksX7_readsSum_0 23 rfl rfl)
theorem dX7_readsSum_24 : decode cX7_readsSum 24 = .ok (.if_icmp .eq 59, 3) := dk_159 0 59 (dk_at dksX7_readsSum_1 0 rfl rfl)
theorem dX7_readsSum_27 : decode cX7_readsSum 27 = .ok (.aload_n 0, 1) := dk_42 (dk_at dksX7_readsSum_1 3 rfl rfl)
theorem dX7_readsSum_28 : decode cX7_readsSum 28 = .ok (.iload_n 2, 1) := dk_28 (dk_at dksX7_readsSum_1 4 rfl rfl)
theorem dX7_readsSum_29 : decode cX7_readsSum 29 = .ok (.iconst 4, 1) := dk_7 (dk_at dksX7_readsSum_1 5 rfl rfl)
theorem dX7_readsSum_30 : decode cX7_readsSum 30 = .ok (.if_icmp .ge 7, 3) := dk_162 0 7 (dk_at dksX7_readsSum_1 6 rfl rfl)
theorem dX7_readsSum_33 : decode cX7_readsSum 33 = .ok (.iconst 1, 1) := dk_4 (dk_at dksX7_readsSum_1 9 rfl rfl)
theorem dX7_readsSum_34 : decode cX7_readsSum 34 = .ok (.goto 4, 3) := dk_167 0 4 (dk_at dksX7_readsSum_1 10 rfl rfl)
theorem dX7_readsSum_37 : decode cX7_readsSum 37 = .ok (.iconst 0, 1) := dk_3 (dk_at dksX7_readsSum_1 13 rfl rfl)
theorem dX7_readsSum_38 : decode cX7_readsSum 38 = .ok (.invokevirtual 188, 3) := dk_182 0 188 (dk_at dksX7_readsSum_1 14 rfl rfl)
theorem dX7_readsSum_41 : decode cX7_readsSum 41 = .ok (.aload_n 0, 1) := dk_42 (dk_at dksX7_readsSum_1 17 rfl rfl)
theorem dX7_readsSum_42 : decode cX7_readsSum 42 = .ok (.getfield 26, 3) := dk_180 0 26 (dk_at dksX7_readsSum_1 18 rfl rfl)
theorem dX7_readsSum_45 : decode cX7_readsSum 45 = .ok (.aload_n 0, 1) := dk_42 (dk_at dksX7_readsSum_1 21 rfl rfl)
theorem dX7_readsSum_46 : decode cX7_readsSum 46 = .ok (.getfield 163, 3) := dk_180 0 163 (dk_at dksX7_readsSum_2 0 rfl rfl)
theorem dX7_readsSum_49 : decode cX7_readsSum 49 = .ok (.ldc 159, 2) := dk_18 159 (dk_at dksX7_readsSum_2 3 rfl rfl)
theorem dX7_readsSum_51 : decode cX7_readsSum 51 = .ok (.iload_n 2, 1) := dk_28 (dk_at dksX7_readsSum_2 5 rfl rfl)
theorem dX7_readsSum_52 : decode cX7_readsSum 52 = .ok (.imul, 1) := dk_104 (dk_at dksX7_readsSum_2 6 rfl rfl)
theorem dX7_readsSum_53 : decode cX7_readsSum 53 = .ok (.iastore, 1) := dk_79 (dk_at dksX7_readsSum_2 7 rfl rfl)
theorem dX7_readsSum_54 : decode cX7_readsSum 54 = .ok (.aload_n 0, 1) := dk_42 (dk_at dksX7_readsSum_2 8 rfl rfl)
theorem dX7_readsSum_55 : decode cX7_readsSum 55 = .ok (.aload_n 0, 1) := dk_42 (dk_at dksX7_readsSum_2 9 rfl rfl)
theorem dX7_readsSum_56 : decode cX7_readsSum 56 = .ok (.getfield 163, 3) := dk_180 0 163 (dk_at dksX7_readsSum_2 10 rfl rfl)
theorem dX7_readsSum_59 : decode cX7_readsSum 59 = .ok (.iconst 1, 1) := dk_4 (dk_at dksX7_readsSum_2 13 rfl rfl)
theorem dX7_readsSum_60 : decode cX7_readsSum 60 = .ok (.iadd, 1) := dk_96 (dk_at dksX7_readsSum_2 14 rfl rfl)
theorem dX7_readsSum_61 : decode cX7_readsSum 61 = .ok (.putfield 163, 3) := dk_181 0 163 (dk_at dksX7_readsSum_2 15 rfl rfl)
theorem dX7_readsSum_64 : decode cX7_readsSum 64 = .ok (.aload_n 0, 1) := dk_42 (dk_at dksX7_readsSum_2 18 rfl rfl)
theorem dX7_readsSum_65 : decode cX7_readsSum 65 = .ok (.aload_n 0, 1) := dk_42 (dk_at dksX7_readsSum_2 19 rfl rfl)
theorem dX7_readsSum_66 : decode cX7_readsSum 66 = .ok (.getfield 133, 3) := dk_180 0 133 (dk_at dksX7_readsSum_2 20 rfl rfl)
theorem dX7_readsSum_69 : decode cX7_readsSum 69 = .ok (.iconst 1, 1) := dk_4 (dk_at dksX7_readsSum_2 23 rfl rfl)
theorem dX7_readsSum_70 : decode cX7_readsSum 70 = .ok (.iadd, 1) := dk_96 (dk_at dksX7_readsSum_3 0 rfl rfl)
theorem dX7_readsSum_71 : decode cX7_readsSum 71 = .ok (.putfield 133, 3) := dk_181 0 133 (dk_at dksX7_readsSum_3 1 rfl rfl)
theorem dX7_readsSum_74 : decode cX7_readsSum 74 = .ok (.aload_n 0, 1) := dk_42 (dk_at dksX7_readsSum_3 4 rfl rfl)
theorem dX7_readsSum_75 : decode cX7_readsSum 75 = .ok (.invokevirtual 182, 3) := dk_182 0 182 (dk_at dksX7_readsSum_3 5 rfl rfl)
theorem dX7_readsSum_78 : decode cX7_readsSum 78 = .ok (.ifCond .ne 85, 3) := dk_154 0 85 (dk_at dksX7_readsSum_3 8 rfl rfl)
theorem dX7_readsSum_81 : decode cX7_readsSum 81 = .ok (.iconst 0, 1) := dk_3 (dk_at dksX7_readsSum_3 11 rfl rfl)
theorem dX7_readsSum_82 : decode cX7_readsSum 82 = .ok (.ireturn, 1) := dk_172 (dk_at dksX7_readsSum_3 12 rfl rfl)
theorem dX7_readsSum_83 : decode cX7_readsSum 83 = .ok (.aload_n 0, 1) := dk_42 (dk_at dksX7_readsSum_3 13 rfl rfl)
theorem dX7_readsSum_84 : decode cX7_readsSum 84 = .ok (.invokevirtual 139, 3) := dk_182 0 139 (dk_at dksX7_readsSum_3 14 rfl rfl)
theorem dX7_readsSum_87 : decode cX7_readsSum 87 = .ok (.bipush 93, 2) := dk_16 93 (dk_at dksX7_readsSum_3 17 rfl rfl)
theorem dX7_readsSum_89 : decode cX7_readsSum 89 = .ok (.if_icmp .ne 49, 3) := dk_160 0 49 (dk_at dksX7_readsSum_3 19 rfl rfl)
theorem dX7_readsSum_92 : decode cX7_readsSum 92 = .ok (.aload_n 0, 1) := dk_42 (dk_at dksX7_readsSum_3 22 rfl rfl)
theorem dX7_readsSum_93 : decode cX7_readsSum 93 = .ok (.iload_n 1, 1) := dk_27 (dk_at dksX7_readsSum_3 23 rfl rfl)
theorem dX7_readsSum_94 : decode cX7_readsSum 94 = .ok (.invokevirtual 192, 3) := dk_182 0 192 (dk_at dksX7_readsSum_4 0 rfl rfl)
theorem dX7_readsSum_97 : decode cX7_readsSum 97 = .ok (.ifCond .eq 41, 3) := dk_153 0 41 (dk_at dksX7_readsSum_4 3 rfl rfl)
theorem dX7_readsSum_100 : decode cX7_readsSum 100 = .ok (.aload_n 0, 1) := dk_42 (dk_at dksX7_readsSum_4 6 rfl rfl)
theorem dX7_readsSum_101 : decode cX7_readsSum 101 = .ok (.iconst 1, 1) := dk_4 (dk_at dksX7_readsSum_4 7 rfl rfl)
theorem dX7_readsSum_102 : decode cX7_readsSum 102 = .ok (.invokevirtual 188, 3) := dk_182 0 188 (dk_at dksX7_readsSum_4 8 rfl rfl)
theorem dX7_readsSum_105 : decode cX7_readsSum 105 = .ok (.aload_n 0, 1) := dk_42 (dk_at dksX7_readsSum_4 11 rfl rfl)
theorem dX7_readsSum_106 : decode cX7_readsSum 106 = .ok (.aload_n 0, 1) := dk_42 (dk_at dksX7_readsSum_4 12 rfl rfl)
theorem dX7_readsSum_107 : decode cX7_readsSum 107 = .ok (.getfield 163, 3) := dk_180 0 163 (dk_at dksX7_readsSum_4 13 rfl rfl)
theorem dX7_readsSum_110 : decode cX7_readsSum 110 = .ok (.iconst 1, 1) := dk_4 (dk_at dksX7_readsSum_4 16 rfl rfl)
theorem dX7_readsSum_111 : decode cX7_readsSum 111 = .ok (.isub, 1) := dk_100 (dk_at dksX7_readsSum_4 17 rfl rfl)
theorem dX7_readsSum_112 : decode cX7_readsSum 112 = .ok (.putfield 163, 3) := dk_181 0 163 (dk_at dksX7_readsSum_4 18 rfl rfl)
theorem dX7_readsSum_115 : decode cX7_readsSum 115 = .ok (.aload_n 0, 1) := dk_42 (dk_at dksX7_readsSum_4 21 rfl rfl)
theorem dX7_readsSum_116 : decode cX7_readsSum 116 = .ok (.aload_n 0, 1) := dk_42 (dk_at dksX7_readsSum_4 22 rfl rfl)
theorem dX7_readsSum_117 : decode cX7_readsSum 117 = .ok (.getfield 160, 3) := dk_180 0 160 (dk_at dksX7_readsSum_5 0 rfl rfl)
theorem dX7_readsSum_120 : decode cX7_readsSum 120 = .ok (.iconst 1, 1) := dk_4 (dk_at dksX7_readsSum_5 3 rfl rfl)
theorem dX7_readsSum_121 : decode cX7_readsSum 121 = .ok (.isub, 1) := dk_100 (dk_at dksX7_readsSum_5 4 rfl rfl)
theorem dX7_readsSum_122 : decode cX7_readsSum 122 = .ok (.putfield 160, 3) := dk_181 0 160 (dk_at dksX7_readsSum_5 5 rfl rfl)
theorem dX7_readsSum_125 : decode cX7_readsSum 125 = .ok (.aload_n 0, 1) := dk_42 (dk_at dksX7_readsSum_5 8 rfl rfl)
theorem dX7_readsSum_126 : decode cX7_readsSum 126 = .ok (.aload_n 0, 1) := dk_42 (dk_at dksX7_readsSum_5 9 rfl rfl)
theorem dX7_readsSum_127 : decode cX7_readsSum 127 = .ok (.getfield 133, 3) := dk_180 0 133 (dk_at dksX7_readsSum_5 10 rfl rfl)
theorem dX7_readsSum_130 : decode cX7_readsSum 130 = .ok (.iconst 1, 1) := dk_4 (dk_at dksX7_readsSum_5 13 rfl rfl)
theorem dX7_readsSum_131 : decode cX7_readsSum 131 = .ok (.iadd, 1) := dk_96 (dk_at dksX7_readsSum_5 14 rfl rfl)
theorem dX7_readsSum_132 : decode cX7_readsSum 132 = .ok (.putfield 133, 3) := dk_181 0 133 (dk_at dksX7_readsSum_5 15 rfl rfl)
theorem dX7_readsSum_135 : decode cX7_readsSum 135 = .ok (.goto 28, 3) := dk_167 0 28 (dk_at dksX7_readsSum_5 18 rfl rfl)
theorem dX7_readsSum_138 : decode cX7_readsSum 138 = .ok (.aload_n 0, 1) := dk_42 (dk_at dksX7_readsSum_5 21 rfl rfl)
theorem dX7_readsSum_139 : decode cX7_readsSum 139 = .ok (.iload_n 1, 1) := dk_27 (dk_at dksX7_readsSum_5 22 rfl rfl)
theorem dX7_readsSum_140 : decode cX7_readsSum 140 = .ok (.invokevirtual 192, 3) := dk_182 0 192 (dk_at dksX7_readsSum_6 0 rfl rfl)
theorem dX7_readsSum_143 : decode cX7_readsSum 143 = .ok (.ifCond .eq 13, 3) := dk_153 0 13 (dk_at dksX7_readsSum_6 3 rfl rfl)
theorem dX7_readsSum_146 : decode cX7_readsSum 146 = .ok (.aload_n 0, 1) := dk_42 (dk_at dksX7_readsSum_6 6 rfl rfl)
theorem dX7_readsSum_147 : decode cX7_readsSum 147 = .ok (.iconst 1, 1) := dk_4 (dk_at dksX7_readsSum_6 7 rfl rfl)
theorem dX7_readsSum_148 : decode cX7_readsSum 148 = .ok (.aload_n 0, 1) := dk_42 (dk_at dksX7_readsSum_6 8 rfl rfl)
theorem dX7_readsSum_149 : decode cX7_readsSum 149 = .ok (.getfield 133, 3) := dk_180 0 133 (dk_at dksX7_readsSum_6 9 rfl rfl)
theorem dX7_readsSum_152 : decode cX7_readsSum 152 = .ok (.invokevirtual 146, 3) := dk_182 0 146 (dk_at dksX7_readsSum_6 12 rfl rfl)
theorem dX7_readsSum_155 : decode cX7_readsSum 155 = .ok (.ireturn, 1) := dk_172 (dk_at dksX7_readsSum_6 15 rfl rfl)
theorem dX7_readsSum_156 : decode cX7_readsSum 156 = .ok (.aload_n 0, 1) := dk_42 (dk_at dksX7_readsSum_6 16 rfl rfl)
theorem dX7_readsSum_157 : decode cX7_readsSum 157 = .ok (.iconst 1, 1) := dk_4 (dk_at dksX7_readsSum_6 17 rfl rfl)
theorem dX7_readsSum_158 : decode cX7_readsSum 158 = .ok (.invokevirtual 188, 3) := dk_182 0 188 (dk_at dksX7_readsSum_6 18 rfl rfl)
theorem dX7_readsSum_161 : decode cX7_readsSum 161 = .ok (.iconst 1, 1) := dk_4 (dk_at dksX7_readsSum_6 21 rfl rfl)
theorem dX7_readsSum_162 : decode cX7_readsSum 162 = .ok (.ireturn, 1) := dk_172 (dk_at dksX7_readsSum_6 22 rfl rfl)
theorem dX7_readsSum_163 : decode cX7_readsSum 163 = .ok (.goto (-149), 3) := dk_167 255 107 (dk_at dksX7_readsSum_7 0 rfl rfl)
abbrev cX7_readsFactor : ByteArray := prog_21_method_32_code
def yX7_readsFactor : MethodName := ⟨RX7, "readsFactor", "()Z"⟩
def dkwX7_readsFactor_3 : List UInt8 := [27, 182, 0, 169, 42, 42, 180, 0, 133, 4, 96, 181, 0, 133, 4, 172]
abbrev dktX7_readsFactor_3 : List UInt8 := dkwX7_readsFactor_3 ++ []
def dkwX7_readsFactor_2 : List UInt8 := [182, 0, 139, 184, 0, 178, 60, 27, 2, 160, 0, 13, 42, 4, 42, 180, 0, 133, 182, 0, 146, 172, 42, 4]
abbrev dktX7_readsFactor_2 : List UInt8 := dkwX7_readsFactor_2 ++ dktX7_readsFactor_3
def dkwX7_readsFactor_1 : List UInt8 := [153, 0, 23, 42, 182, 0, 175, 154, 0, 5, 3, 172, 42, 3, 42, 180, 0, 149, 182, 0, 169, 4, 172, 42]
abbrev dktX7_readsFactor_1 : List UInt8 := dkwX7_readsFactor_1 ++ dktX7_readsFactor_2
def dkwX7_readsFactor_0 : List UInt8 := [42, 182, 0, 139, 16, 91, 160, 0, 14, 42, 16, 14, 182, 0, 172, 154, 255, 241, 3, 172, 42, 182, 0, 152]
abbrev dktX7_readsFactor_0 : List UInt8 := dkwX7_readsFactor_0 ++ dktX7_readsFactor_1
theorem dksX7_readsFactor_0 : cX7_readsFactor.data.toList.drop 0 = dktX7_readsFactor_0 := by decide +kernel
theorem dksX7_readsFactor_1 : cX7_readsFactor.data.toList.drop 24 = dktX7_readsFactor_1 := dk_seg dksX7_readsFactor_0 24 rfl rfl
theorem dksX7_readsFactor_2 : cX7_readsFactor.data.toList.drop 48 = dktX7_readsFactor_2 := dk_seg dksX7_readsFactor_1 24 rfl rfl
theorem dksX7_readsFactor_3 : cX7_readsFactor.data.toList.drop 72 = dktX7_readsFactor_3 := dk_seg dksX7_readsFactor_2 24 rfl rfl
theorem dX7_readsFactor_0 : decode cX7_readsFactor 0 = .ok (.aload_n 0, 1) := dk_42 (dk_at dksX7_readsFactor_0 0 rfl rfl)
theorem dX7_readsFactor_1 : decode cX7_readsFactor 1 = .ok (.invokevirtual 139, 3) := dk_182 0 139 (dk_at dksX7_readsFactor_0 1 rfl rfl)
theorem dX7_readsFactor_4 : decode cX7_readsFactor 4 = .ok (.bipush 91, 2) := dk_16 91 (dk_at dksX7_readsFactor_0 4 rfl rfl)
theorem dX7_readsFactor_6 : decode cX7_readsFactor 6 = .ok (.if_icmp .ne 14, 3) := dk_160 0 14 (dk_at dksX7_readsFactor_0 6 rfl rfl)
theorem dX7_readsFactor_9 : decode cX7_readsFactor 9 = .ok (.aload_n 0, 1) := dk_42 (dk_at dksX7_readsFactor_0 9 rfl rfl)
theorem dX7_readsFactor_10 : decode cX7_readsFactor 10 = .ok (.bipush 14, 2) := dk_16 14 (dk_at dksX7_readsFactor_0 10 rfl rfl)
theorem dX7_readsFactor_12 : decode cX7_readsFactor 12 = .ok (.invokevirtual 172, 3) := dk_182 0 172 (dk_at dksX7_readsFactor_0 12 rfl rfl)
theorem dX7_readsFactor_15 : decode cX7_readsFactor 15 = .ok (.ifCond .ne (-15), 3) := dk_154 255 241 (dk_at dksX7_readsFactor_0 15 rfl rfl)
theorem dX7_readsFactor_18 : decode cX7_readsFactor 18 = .ok (.iconst 0, 1) := dk_3 (dk_at dksX7_readsFactor_0 18 rfl rfl)
theorem dX7_readsFactor_19 : decode cX7_readsFactor 19 = .ok (.ireturn, 1) := dk_172 (dk_at dksX7_readsFactor_0 19 rfl rfl)
theorem dX7_readsFactor_20 : decode cX7_readsFactor 20 = .ok (.aload_n 0, 1) := dk_42 (dk_at dksX7_readsFactor_0 20 rfl rfl)
theorem dX7_readsFactor_21 : decode cX7_readsFactor 21 = .ok (.invokevirtual 152, 3) := dk_182 0 152 (dk_at dksX7_readsFactor_0 21 rfl rfl)
theorem dX7_readsFactor_24 : decode cX7_readsFactor 24 = .ok (.ifCond .eq 23, 3) := dk_153 0 23 (dk_at dksX7_readsFactor_1 0 rfl rfl)
theorem dX7_readsFactor_27 : decode cX7_readsFactor 27 = .ok (.aload_n 0, 1) := dk_42 (dk_at dksX7_readsFactor_1 3 rfl rfl)
theorem dX7_readsFactor_28 : decode cX7_readsFactor 28 = .ok (.invokevirtual 175, 3) := dk_182 0 175 (dk_at dksX7_readsFactor_1 4 rfl rfl)
theorem dX7_readsFactor_31 : decode cX7_readsFactor 31 = .ok (.ifCond .ne 5, 3) := dk_154 0 5 (dk_at dksX7_readsFactor_1 7 rfl rfl)
theorem dX7_readsFactor_34 : decode cX7_readsFactor 34 = .ok (.iconst 0, 1) := dk_3 (dk_at dksX7_readsFactor_1 10 rfl rfl)
theorem dX7_readsFactor_35 : decode cX7_readsFactor 35 = .ok (.ireturn, 1) := dk_172 (dk_at dksX7_readsFactor_1 11 rfl rfl)
theorem dX7_readsFactor_36 : decode cX7_readsFactor 36 = .ok (.aload_n 0, 1) := dk_42 (dk_at dksX7_readsFactor_1 12 rfl rfl)
theorem dX7_readsFactor_37 : decode cX7_readsFactor 37 = .ok (.iconst 0, 1) := dk_3 (dk_at dksX7_readsFactor_1 13 rfl rfl)
theorem dX7_readsFactor_38 : decode cX7_readsFactor 38 = .ok (.aload_n 0, 1) := dk_42 (dk_at dksX7_readsFactor_1 14 rfl rfl)
theorem dX7_readsFactor_39 : decode cX7_readsFactor 39 = .ok (.getfield 149, 3) := dk_180 0 149 (dk_at dksX7_readsFactor_1 15 rfl rfl)
theorem dX7_readsFactor_42 : decode cX7_readsFactor 42 = .ok (.invokevirtual 169, 3) := dk_182 0 169 (dk_at dksX7_readsFactor_1 18 rfl rfl)
theorem dX7_readsFactor_45 : decode cX7_readsFactor 45 = .ok (.iconst 1, 1) := dk_4 (dk_at dksX7_readsFactor_1 21 rfl rfl)
theorem dX7_readsFactor_46 : decode cX7_readsFactor 46 = .ok (.ireturn, 1) := dk_172 (dk_at dksX7_readsFactor_1 22 rfl rfl)
theorem dX7_readsFactor_47 : decode cX7_readsFactor 47 = .ok (.aload_n 0, 1) := dk_42 (dk_at dksX7_readsFactor_1 23 rfl rfl)
theorem dX7_readsFactor_48 : decode cX7_readsFactor 48 = .ok (.invokevirtual 139, 3) := dk_182 0 139 (dk_at dksX7_readsFactor_2 0 rfl rfl)
theorem dX7_readsFactor_51 : decode cX7_readsFactor 51 = .ok (.invokestatic 178, 3) := dk_184 0 178 (dk_at dksX7_readsFactor_2 3 rfl rfl)
theorem dX7_readsFactor_54 : decode cX7_readsFactor 54 = .ok (.istore_n 1, 1) := dk_60 (dk_at dksX7_readsFactor_2 6 rfl rfl)
theorem dX7_readsFactor_55 : decode cX7_readsFactor 55 = .ok (.iload_n 1, 1) := dk_27 (dk_at dksX7_readsFactor_2 7 rfl rfl)
theorem dX7_readsFactor_56 : decode cX7_readsFactor 56 = .ok (.iconst (-1), 1) := dk_2 (dk_at dksX7_readsFactor_2 8 rfl rfl)
theorem dX7_readsFactor_57 : decode cX7_readsFactor 57 = .ok (.if_icmp .ne 13, 3) := dk_160 0 13 (dk_at dksX7_readsFactor_2 9 rfl rfl)
theorem dX7_readsFactor_60 : decode cX7_readsFactor 60 = .ok (.aload_n 0, 1) := dk_42 (dk_at dksX7_readsFactor_2 12 rfl rfl)
theorem dX7_readsFactor_61 : decode cX7_readsFactor 61 = .ok (.iconst 1, 1) := dk_4 (dk_at dksX7_readsFactor_2 13 rfl rfl)
theorem dX7_readsFactor_62 : decode cX7_readsFactor 62 = .ok (.aload_n 0, 1) := dk_42 (dk_at dksX7_readsFactor_2 14 rfl rfl)
theorem dX7_readsFactor_63 : decode cX7_readsFactor 63 = .ok (.getfield 133, 3) := dk_180 0 133 (dk_at dksX7_readsFactor_2 15 rfl rfl)
theorem dX7_readsFactor_66 : decode cX7_readsFactor 66 = .ok (.invokevirtual 146, 3) := dk_182 0 146 (dk_at dksX7_readsFactor_2 18 rfl rfl)
theorem dX7_readsFactor_69 : decode cX7_readsFactor 69 = .ok (.ireturn, 1) := dk_172 (dk_at dksX7_readsFactor_2 21 rfl rfl)
theorem dX7_readsFactor_70 : decode cX7_readsFactor 70 = .ok (.aload_n 0, 1) := dk_42 (dk_at dksX7_readsFactor_2 22 rfl rfl)
theorem dX7_readsFactor_71 : decode cX7_readsFactor 71 = .ok (.iconst 1, 1) := dk_4 (dk_at dksX7_readsFactor_2 23 rfl rfl)
theorem dX7_readsFactor_72 : decode cX7_readsFactor 72 = .ok (.iload_n 1, 1) := dk_27 (dk_at dksX7_readsFactor_3 0 rfl rfl)
theorem dX7_readsFactor_73 : decode cX7_readsFactor 73 = .ok (.invokevirtual 169, 3) := dk_182 0 169 (dk_at dksX7_readsFactor_3 1 rfl rfl)
theorem dX7_readsFactor_76 : decode cX7_readsFactor 76 = .ok (.aload_n 0, 1) := dk_42 (dk_at dksX7_readsFactor_3 4 rfl rfl)
theorem dX7_readsFactor_77 : decode cX7_readsFactor 77 = .ok (.aload_n 0, 1) := dk_42 (dk_at dksX7_readsFactor_3 5 rfl rfl)
theorem dX7_readsFactor_78 : decode cX7_readsFactor 78 = .ok (.getfield 133, 3) := dk_180 0 133 (dk_at dksX7_readsFactor_3 6 rfl rfl)
theorem dX7_readsFactor_81 : decode cX7_readsFactor 81 = .ok (.iconst 1, 1) := dk_4 (dk_at dksX7_readsFactor_3 9 rfl rfl)
theorem dX7_readsFactor_82 : decode cX7_readsFactor 82 = .ok (.iadd, 1) := dk_96 (dk_at dksX7_readsFactor_3 10 rfl rfl)
theorem dX7_readsFactor_83 : decode cX7_readsFactor 83 = .ok (.putfield 133, 3) := dk_181 0 133 (dk_at dksX7_readsFactor_3 11 rfl rfl)
theorem dX7_readsFactor_86 : decode cX7_readsFactor 86 = .ok (.iconst 1, 1) := dk_4 (dk_at dksX7_readsFactor_3 14 rfl rfl)
theorem dX7_readsFactor_87 : decode cX7_readsFactor 87 = .ok (.ireturn, 1) := dk_172 (dk_at dksX7_readsFactor_3 15 rfl rfl)
abbrev cX7_opens : ByteArray := prog_21_method_27_code
def yX7_opens : MethodName := ⟨RX7, "opens", "(I)Z"⟩
def dkwX7_opens_2 : List UInt8 := [96, 181, 0, 163, 42, 42, 180, 0, 133, 4, 96, 181, 0, 133, 4, 172]
abbrev dktX7_opens_2 : List UInt8 := dkwX7_opens_2 ++ []
def dkwX7_opens_1 : List UInt8 := [4, 96, 181, 0, 160, 42, 180, 0, 26, 42, 180, 0, 163, 18, 159, 27, 104, 79, 42, 42, 180, 0, 163, 4]
abbrev dktX7_opens_1 : List UInt8 := dkwX7_opens_1 ++ dktX7_opens_2
def dkwX7_opens_0 : List UInt8 := [42, 180, 0, 160, 16, 6, 160, 0, 13, 42, 8, 42, 180, 0, 133, 182, 0, 146, 172, 42, 42, 180, 0, 160]
abbrev dktX7_opens_0 : List UInt8 := dkwX7_opens_0 ++ dktX7_opens_1
theorem dksX7_opens_0 : cX7_opens.data.toList.drop 0 = dktX7_opens_0 := by decide +kernel
theorem dksX7_opens_1 : cX7_opens.data.toList.drop 24 = dktX7_opens_1 := dk_seg dksX7_opens_0 24 rfl rfl
theorem dksX7_opens_2 : cX7_opens.data.toList.drop 48 = dktX7_opens_2 := dk_seg dksX7_opens_1 24 rfl rfl
theorem dX7_opens_0 : decode cX7_opens 0 = .ok (.aload_n 0, 1) := dk_42 (dk_at dksX7_opens_0 0 rfl rfl)
theorem dX7_opens_1 : decode cX7_opens 1 = .ok (.getfield 160, 3) := dk_180 0 160 (dk_at dksX7_opens_0 1 rfl rfl)
theorem dX7_opens_4 : decode cX7_opens 4 = .ok (.bipush 6, 2) := dk_16 6 (dk_at dksX7_opens_0 4 rfl rfl)
theorem dX7_opens_6 : decode cX7_opens 6 = .ok (.if_icmp .ne 13, 3) := dk_160 0 13 (dk_at dksX7_opens_0 6 rfl rfl)
theorem dX7_opens_9 : decode cX7_opens 9 = .ok (.aload_n 0, 1) := dk_42 (dk_at dksX7_opens_0 9 rfl rfl)
theorem dX7_opens_10 : decode cX7_opens 10 = .ok (.iconst 5, 1) := dk_8 (dk_at dksX7_opens_0 10 rfl rfl)
theorem dX7_opens_11 : decode cX7_opens 11 = .ok (.aload_n 0, 1) := dk_42 (dk_at dksX7_opens_0 11 rfl rfl)
theorem dX7_opens_12 : decode cX7_opens 12 = .ok (.getfield 133, 3) := dk_180 0 133 (dk_at dksX7_opens_0 12 rfl rfl)
theorem dX7_opens_15 : decode cX7_opens 15 = .ok (.invokevirtual 146, 3) := dk_182 0 146 (dk_at dksX7_opens_0 15 rfl rfl)
theorem dX7_opens_18 : decode cX7_opens 18 = .ok (.ireturn, 1) := dk_172 (dk_at dksX7_opens_0 18 rfl rfl)
theorem dX7_opens_19 : decode cX7_opens 19 = .ok (.aload_n 0, 1) := dk_42 (dk_at dksX7_opens_0 19 rfl rfl)
theorem dX7_opens_20 : decode cX7_opens 20 = .ok (.aload_n 0, 1) := dk_42 (dk_at dksX7_opens_0 20 rfl rfl)
theorem dX7_opens_21 : decode cX7_opens 21 = .ok (.getfield 160, 3) := dk_180 0 160 (dk_at dksX7_opens_0 21 rfl rfl)
theorem dX7_opens_24 : decode cX7_opens 24 = .ok (.iconst 1, 1) := dk_4 (dk_at dksX7_opens_1 0 rfl rfl)
theorem dX7_opens_25 : decode cX7_opens 25 = .ok (.iadd, 1) := dk_96 (dk_at dksX7_opens_1 1 rfl rfl)
theorem dX7_opens_26 : decode cX7_opens 26 = .ok (.putfield 160, 3) := dk_181 0 160 (dk_at dksX7_opens_1 2 rfl rfl)
theorem dX7_opens_29 : decode cX7_opens 29 = .ok (.aload_n 0, 1) := dk_42 (dk_at dksX7_opens_1 5 rfl rfl)
theorem dX7_opens_30 : decode cX7_opens 30 = .ok (.getfield 26, 3) := dk_180 0 26 (dk_at dksX7_opens_1 6 rfl rfl)
theorem dX7_opens_33 : decode cX7_opens 33 = .ok (.aload_n 0, 1) := dk_42 (dk_at dksX7_opens_1 9 rfl rfl)
theorem dX7_opens_34 : decode cX7_opens 34 = .ok (.getfield 163, 3) := dk_180 0 163 (dk_at dksX7_opens_1 10 rfl rfl)
theorem dX7_opens_37 : decode cX7_opens 37 = .ok (.ldc 159, 2) := dk_18 159 (dk_at dksX7_opens_1 13 rfl rfl)
theorem dX7_opens_39 : decode cX7_opens 39 = .ok (.iload_n 1, 1) := dk_27 (dk_at dksX7_opens_1 15 rfl rfl)
theorem dX7_opens_40 : decode cX7_opens 40 = .ok (.imul, 1) := dk_104 (dk_at dksX7_opens_1 16 rfl rfl)
theorem dX7_opens_41 : decode cX7_opens 41 = .ok (.iastore, 1) := dk_79 (dk_at dksX7_opens_1 17 rfl rfl)
theorem dX7_opens_42 : decode cX7_opens 42 = .ok (.aload_n 0, 1) := dk_42 (dk_at dksX7_opens_1 18 rfl rfl)
theorem dX7_opens_43 : decode cX7_opens 43 = .ok (.aload_n 0, 1) := dk_42 (dk_at dksX7_opens_1 19 rfl rfl)
theorem dX7_opens_44 : decode cX7_opens 44 = .ok (.getfield 163, 3) := dk_180 0 163 (dk_at dksX7_opens_1 20 rfl rfl)
theorem dX7_opens_47 : decode cX7_opens 47 = .ok (.iconst 1, 1) := dk_4 (dk_at dksX7_opens_1 23 rfl rfl)
theorem dX7_opens_48 : decode cX7_opens 48 = .ok (.iadd, 1) := dk_96 (dk_at dksX7_opens_2 0 rfl rfl)
theorem dX7_opens_49 : decode cX7_opens 49 = .ok (.putfield 163, 3) := dk_181 0 163 (dk_at dksX7_opens_2 1 rfl rfl)
theorem dX7_opens_52 : decode cX7_opens 52 = .ok (.aload_n 0, 1) := dk_42 (dk_at dksX7_opens_2 4 rfl rfl)
theorem dX7_opens_53 : decode cX7_opens 53 = .ok (.aload_n 0, 1) := dk_42 (dk_at dksX7_opens_2 5 rfl rfl)
theorem dX7_opens_54 : decode cX7_opens 54 = .ok (.getfield 133, 3) := dk_180 0 133 (dk_at dksX7_opens_2 6 rfl rfl)
theorem dX7_opens_57 : decode cX7_opens 57 = .ok (.iconst 1, 1) := dk_4 (dk_at dksX7_opens_2 9 rfl rfl)
theorem dX7_opens_58 : decode cX7_opens 58 = .ok (.iadd, 1) := dk_96 (dk_at dksX7_opens_2 10 rfl rfl)
theorem dX7_opens_59 : decode cX7_opens 59 = .ok (.putfield 133, 3) := dk_181 0 133 (dk_at dksX7_opens_2 11 rfl rfl)
theorem dX7_opens_62 : decode cX7_opens 62 = .ok (.iconst 1, 1) := dk_4 (dk_at dksX7_opens_2 14 rfl rfl)
theorem dX7_opens_63 : decode cX7_opens 63 = .ok (.ireturn, 1) := dk_172 (dk_at dksX7_opens_2 15 rfl rfl)
abbrev cX7_isDigit : ByteArray := prog_21_method_22_code
def yX7_isDigit : MethodName := ⟨RX7, "isDigit", "()Z"⟩
def dkwX7_isDigit_0 : List UInt8 := [42, 182, 0, 139, 16, 48, 161, 0, 16, 42, 182, 0, 139, 16, 57, 163, 0, 7, 4, 167, 0, 4, 3, 172]
abbrev dktX7_isDigit_0 : List UInt8 := dkwX7_isDigit_0 ++ []
theorem dksX7_isDigit_0 : cX7_isDigit.data.toList.drop 0 = dktX7_isDigit_0 := by decide +kernel
theorem dX7_isDigit_0 : decode cX7_isDigit 0 = .ok (.aload_n 0, 1) := dk_42 (dk_at dksX7_isDigit_0 0 rfl rfl)
theorem dX7_isDigit_1 : decode cX7_isDigit 1 = .ok (.invokevirtual 139, 3) := dk_182 0 139 (dk_at dksX7_isDigit_0 1 rfl rfl)
theorem dX7_isDigit_4 : decode cX7_isDigit 4 = .ok (.bipush 48, 2) := dk_16 48 (dk_at dksX7_isDigit_0 4 rfl rfl)
theorem dX7_isDigit_6 : decode cX7_isDigit 6 = .ok (.if_icmp .lt 16, 3) := dk_161 0 16 (dk_at dksX7_isDigit_0 6 rfl rfl)
theorem dX7_isDigit_9 : decode cX7_isDigit 9 = .ok (.aload_n 0, 1) := dk_42 (dk_at dksX7_isDigit_0 9 rfl rfl)
theorem dX7_isDigit_10 : decode cX7_isDigit 10 = .ok (.invokevirtual 139, 3) := dk_182 0 139 (dk_at dksX7_isDigit_0 10 rfl rfl)
theorem dX7_isDigit_13 : decode cX7_isDigit 13 = .ok (.bipush 57, 2) := dk_16 57 (dk_at dksX7_isDigit_0 13 rfl rfl)
theorem dX7_isDigit_15 : decode cX7_isDigit 15 = .ok (.if_icmp .gt 7, 3) := dk_163 0 7 (dk_at dksX7_isDigit_0 15 rfl rfl)
theorem dX7_isDigit_18 : decode cX7_isDigit 18 = .ok (.iconst 1, 1) := dk_4 (dk_at dksX7_isDigit_0 18 rfl rfl)
theorem dX7_isDigit_19 : decode cX7_isDigit 19 = .ok (.goto 4, 3) := dk_167 0 4 (dk_at dksX7_isDigit_0 19 rfl rfl)
theorem dX7_isDigit_22 : decode cX7_isDigit 22 = .ok (.iconst 0, 1) := dk_3 (dk_at dksX7_isDigit_0 22 rfl rfl)
theorem dX7_isDigit_23 : decode cX7_isDigit 23 = .ok (.ireturn, 1) := dk_172 (dk_at dksX7_isDigit_0 23 rfl rfl)
abbrev cX7_readsNumber : ByteArray := prog_21_method_25_code
def yX7_readsNumber : MethodName := ⟨RX7, "readsNumber", "()Z"⟩
def dkwX7_readsNumber_3 : List UInt8 := [172]
abbrev dktX7_readsNumber_3 : List UInt8 := dkwX7_readsNumber_3 ++ []
def dkwX7_readsNumber_2 : List UInt8 := [182, 0, 139, 96, 16, 48, 100, 181, 0, 149, 42, 42, 180, 0, 133, 4, 96, 181, 0, 133, 167, 255, 200, 4]
abbrev dktX7_readsNumber_2 : List UInt8 := dkwX7_readsNumber_2 ++ dktX7_readsNumber_3
def dkwX7_readsNumber_1 : List UInt8 := [160, 0, 13, 42, 5, 42, 180, 0, 133, 182, 0, 146, 172, 42, 16, 10, 42, 180, 0, 149, 104, 42]
abbrev dktX7_readsNumber_1 : List UInt8 := dkwX7_readsNumber_1 ++ dktX7_readsNumber_2
def dkwX7_readsNumber_0 : List UInt8 := [42, 180, 0, 133, 60, 42, 3, 181, 0, 149, 42, 182, 0, 152, 153, 0, 55, 42, 180, 0, 133, 27, 8, 96]
abbrev dktX7_readsNumber_0 : List UInt8 := dkwX7_readsNumber_0 ++ dktX7_readsNumber_1
theorem dksX7_readsNumber_0 : cX7_readsNumber.data.toList.drop 0 = dktX7_readsNumber_0 := by decide +kernel
theorem dksX7_readsNumber_1 : cX7_readsNumber.data.toList.drop 24 = dktX7_readsNumber_1 := dk_seg dksX7_readsNumber_0 24 rfl rfl
theorem dksX7_readsNumber_2 : cX7_readsNumber.data.toList.drop 46 = dktX7_readsNumber_2 := dk_seg dksX7_readsNumber_1 22 rfl rfl
theorem dksX7_readsNumber_3 : cX7_readsNumber.data.toList.drop 70 = dktX7_readsNumber_3 := dk_seg dksX7_readsNumber_2 24 rfl rfl
theorem dX7_readsNumber_0 : decode cX7_readsNumber 0 = .ok (.aload_n 0, 1) := dk_42 (dk_at dksX7_readsNumber_0 0 rfl rfl)
theorem dX7_readsNumber_1 : decode cX7_readsNumber 1 = .ok (.getfield 133, 3) := dk_180 0 133 (dk_at dksX7_readsNumber_0 1 rfl rfl)
theorem dX7_readsNumber_4 : decode cX7_readsNumber 4 = .ok (.istore_n 1, 1) := dk_60 (dk_at dksX7_readsNumber_0 4 rfl rfl)
theorem dX7_readsNumber_5 : decode cX7_readsNumber 5 = .ok (.aload_n 0, 1) := dk_42 (dk_at dksX7_readsNumber_0 5 rfl rfl)
theorem dX7_readsNumber_6 : decode cX7_readsNumber 6 = .ok (.iconst 0, 1) := dk_3 (dk_at dksX7_readsNumber_0 6 rfl rfl)
theorem dX7_readsNumber_7 : decode cX7_readsNumber 7 = .ok (.putfield 149, 3) := dk_181 0 149 (dk_at dksX7_readsNumber_0 7 rfl rfl)
theorem dX7_readsNumber_10 : decode cX7_readsNumber 10 = .ok (.aload_n 0, 1) := dk_42 (dk_at dksX7_readsNumber_0 10 rfl rfl)
theorem dX7_readsNumber_11 : decode cX7_readsNumber 11 = .ok (.invokevirtual 152, 3) := dk_182 0 152 (dk_at dksX7_readsNumber_0 11 rfl rfl)
theorem dX7_readsNumber_14 : decode cX7_readsNumber 14 = .ok (.ifCond .eq 55, 3) := dk_153 0 55 (dk_at dksX7_readsNumber_0 14 rfl rfl)
theorem dX7_readsNumber_17 : decode cX7_readsNumber 17 = .ok (.aload_n 0, 1) := dk_42 (dk_at dksX7_readsNumber_0 17 rfl rfl)
theorem dX7_readsNumber_18 : decode cX7_readsNumber 18 = .ok (.getfield 133, 3) := dk_180 0 133 (dk_at dksX7_readsNumber_0 18 rfl rfl)
theorem dX7_readsNumber_21 : decode cX7_readsNumber 21 = .ok (.iload_n 1, 1) := dk_27 (dk_at dksX7_readsNumber_0 21 rfl rfl)
theorem dX7_readsNumber_22 : decode cX7_readsNumber 22 = .ok (.iconst 5, 1) := dk_8 (dk_at dksX7_readsNumber_0 22 rfl rfl)
theorem dX7_readsNumber_23 : decode cX7_readsNumber 23 = .ok (.iadd, 1) := dk_96 (dk_at dksX7_readsNumber_0 23 rfl rfl)
theorem dX7_readsNumber_24 : decode cX7_readsNumber 24 = .ok (.if_icmp .ne 13, 3) := dk_160 0 13 (dk_at dksX7_readsNumber_1 0 rfl rfl)
theorem dX7_readsNumber_27 : decode cX7_readsNumber 27 = .ok (.aload_n 0, 1) := dk_42 (dk_at dksX7_readsNumber_1 3 rfl rfl)
theorem dX7_readsNumber_28 : decode cX7_readsNumber 28 = .ok (.iconst 2, 1) := dk_5 (dk_at dksX7_readsNumber_1 4 rfl rfl)
theorem dX7_readsNumber_29 : decode cX7_readsNumber 29 = .ok (.aload_n 0, 1) := dk_42 (dk_at dksX7_readsNumber_1 5 rfl rfl)
theorem dX7_readsNumber_30 : decode cX7_readsNumber 30 = .ok (.getfield 133, 3) := dk_180 0 133 (dk_at dksX7_readsNumber_1 6 rfl rfl)
theorem dX7_readsNumber_33 : decode cX7_readsNumber 33 = .ok (.invokevirtual 146, 3) := dk_182 0 146 (dk_at dksX7_readsNumber_1 9 rfl rfl)
theorem dX7_readsNumber_36 : decode cX7_readsNumber 36 = .ok (.ireturn, 1) := dk_172 (dk_at dksX7_readsNumber_1 12 rfl rfl)
theorem dX7_readsNumber_37 : decode cX7_readsNumber 37 = .ok (.aload_n 0, 1) := dk_42 (dk_at dksX7_readsNumber_1 13 rfl rfl)
theorem dX7_readsNumber_38 : decode cX7_readsNumber 38 = .ok (.bipush 10, 2) := dk_16 10 (dk_at dksX7_readsNumber_1 14 rfl rfl)
theorem dX7_readsNumber_40 : decode cX7_readsNumber 40 = .ok (.aload_n 0, 1) := dk_42 (dk_at dksX7_readsNumber_1 16 rfl rfl)
theorem dX7_readsNumber_41 : decode cX7_readsNumber 41 = .ok (.getfield 149, 3) := dk_180 0 149 (dk_at dksX7_readsNumber_1 17 rfl rfl)
theorem dX7_readsNumber_44 : decode cX7_readsNumber 44 = .ok (.imul, 1) := dk_104 (dk_at dksX7_readsNumber_1 20 rfl rfl)
theorem dX7_readsNumber_45 : decode cX7_readsNumber 45 = .ok (.aload_n 0, 1) := dk_42 (dk_at dksX7_readsNumber_1 21 rfl rfl)
theorem dX7_readsNumber_46 : decode cX7_readsNumber 46 = .ok (.invokevirtual 139, 3) := dk_182 0 139 (dk_at dksX7_readsNumber_2 0 rfl rfl)
theorem dX7_readsNumber_49 : decode cX7_readsNumber 49 = .ok (.iadd, 1) := dk_96 (dk_at dksX7_readsNumber_2 3 rfl rfl)
theorem dX7_readsNumber_50 : decode cX7_readsNumber 50 = .ok (.bipush 48, 2) := dk_16 48 (dk_at dksX7_readsNumber_2 4 rfl rfl)
theorem dX7_readsNumber_52 : decode cX7_readsNumber 52 = .ok (.isub, 1) := dk_100 (dk_at dksX7_readsNumber_2 6 rfl rfl)
theorem dX7_readsNumber_53 : decode cX7_readsNumber 53 = .ok (.putfield 149, 3) := dk_181 0 149 (dk_at dksX7_readsNumber_2 7 rfl rfl)
theorem dX7_readsNumber_56 : decode cX7_readsNumber 56 = .ok (.aload_n 0, 1) := dk_42 (dk_at dksX7_readsNumber_2 10 rfl rfl)
theorem dX7_readsNumber_57 : decode cX7_readsNumber 57 = .ok (.aload_n 0, 1) := dk_42 (dk_at dksX7_readsNumber_2 11 rfl rfl)
theorem dX7_readsNumber_58 : decode cX7_readsNumber 58 = .ok (.getfield 133, 3) := dk_180 0 133 (dk_at dksX7_readsNumber_2 12 rfl rfl)
theorem dX7_readsNumber_61 : decode cX7_readsNumber 61 = .ok (.iconst 1, 1) := dk_4 (dk_at dksX7_readsNumber_2 15 rfl rfl)
theorem dX7_readsNumber_62 : decode cX7_readsNumber 62 = .ok (.iadd, 1) := dk_96 (dk_at dksX7_readsNumber_2 16 rfl rfl)
theorem dX7_readsNumber_63 : decode cX7_readsNumber 63 = .ok (.putfield 133, 3) := dk_181 0 133 (dk_at dksX7_readsNumber_2 17 rfl rfl)
theorem dX7_readsNumber_66 : decode cX7_readsNumber 66 = .ok (.goto (-56), 3) := dk_167 255 200 (dk_at dksX7_readsNumber_2 20 rfl rfl)
theorem dX7_readsNumber_69 : decode cX7_readsNumber 69 = .ok (.iconst 1, 1) := dk_4 (dk_at dksX7_readsNumber_2 23 rfl rfl)
theorem dX7_readsNumber_70 : decode cX7_readsNumber 70 = .ok (.ireturn, 1) := dk_172 (dk_at dksX7_readsNumber_3 0 rfl rfl)
abbrev cX7_notes : ByteArray := prog_21_method_26_code
def yX7_notes : MethodName := ⟨RX7, "notes", "(II)V"⟩
def dkwX7_notes_1 : List UInt8 := [181, 0, 156, 177]
abbrev dktX7_notes_1 : List UInt8 := dkwX7_notes_1 ++ []
def dkwX7_notes_0 : List UInt8 := [42, 180, 0, 23, 42, 180, 0, 156, 18, 159, 27, 104, 28, 96, 79, 42, 42, 180, 0, 156, 4, 96]
abbrev dktX7_notes_0 : List UInt8 := dkwX7_notes_0 ++ dktX7_notes_1
theorem dksX7_notes_0 : cX7_notes.data.toList.drop 0 = dktX7_notes_0 := by decide +kernel
theorem dksX7_notes_1 : cX7_notes.data.toList.drop 22 = dktX7_notes_1 := dk_seg dksX7_notes_0 22 rfl rfl
theorem dX7_notes_0 : decode cX7_notes 0 = .ok (.aload_n 0, 1) := dk_42 (dk_at dksX7_notes_0 0 rfl rfl)
theorem dX7_notes_1 : decode cX7_notes 1 = .ok (.getfield 23, 3) := dk_180 0 23 (dk_at dksX7_notes_0 1 rfl rfl)
theorem dX7_notes_4 : decode cX7_notes 4 = .ok (.aload_n 0, 1) := dk_42 (dk_at dksX7_notes_0 4 rfl rfl)
theorem dX7_notes_5 : decode cX7_notes 5 = .ok (.getfield 156, 3) := dk_180 0 156 (dk_at dksX7_notes_0 5 rfl rfl)
theorem dX7_notes_8 : decode cX7_notes 8 = .ok (.ldc 159, 2) := dk_18 159 (dk_at dksX7_notes_0 8 rfl rfl)
theorem dX7_notes_10 : decode cX7_notes 10 = .ok (.iload_n 1, 1) := dk_27 (dk_at dksX7_notes_0 10 rfl rfl)
theorem dX7_notes_11 : decode cX7_notes 11 = .ok (.imul, 1) := dk_104 (dk_at dksX7_notes_0 11 rfl rfl)
theorem dX7_notes_12 : decode cX7_notes 12 = .ok (.iload_n 2, 1) := dk_28 (dk_at dksX7_notes_0 12 rfl rfl)
theorem dX7_notes_13 : decode cX7_notes 13 = .ok (.iadd, 1) := dk_96 (dk_at dksX7_notes_0 13 rfl rfl)
theorem dX7_notes_14 : decode cX7_notes 14 = .ok (.iastore, 1) := dk_79 (dk_at dksX7_notes_0 14 rfl rfl)
theorem dX7_notes_15 : decode cX7_notes 15 = .ok (.aload_n 0, 1) := dk_42 (dk_at dksX7_notes_0 15 rfl rfl)
theorem dX7_notes_16 : decode cX7_notes 16 = .ok (.aload_n 0, 1) := dk_42 (dk_at dksX7_notes_0 16 rfl rfl)
theorem dX7_notes_17 : decode cX7_notes 17 = .ok (.getfield 156, 3) := dk_180 0 156 (dk_at dksX7_notes_0 17 rfl rfl)
theorem dX7_notes_20 : decode cX7_notes 20 = .ok (.iconst 1, 1) := dk_4 (dk_at dksX7_notes_0 20 rfl rfl)
theorem dX7_notes_21 : decode cX7_notes 21 = .ok (.iadd, 1) := dk_96 (dk_at dksX7_notes_0 21 rfl rfl)
theorem dX7_notes_22 : decode cX7_notes 22 = .ok (.putfield 156, 3) := dk_181 0 156 (dk_at dksX7_notes_1 0 rfl rfl)
theorem dX7_notes_25 : decode cX7_notes 25 = .ok (.return_, 1) := dk_177 (dk_at dksX7_notes_1 3 rfl rfl)
abbrev cX7_factOf : ByteArray := prog_21_method_29_code
def yX7_factOf : MethodName := ⟨RX7, "factOf", "(I)I"⟩
def dkwX7_factOf_3 : List UInt8 := [16, 10, 172, 2, 172]
abbrev dktX7_factOf_3 : List UInt8 := dkwX7_factOf_3 ++ []
def dkwX7_factOf_2 : List UInt8 := [3, 172, 4, 172, 5, 172, 6, 172, 7, 172, 8, 172, 16, 6, 172, 16, 7, 172, 16, 8, 172, 16, 9, 172]
abbrev dktX7_factOf_2 : List UInt8 := dkwX7_factOf_2 ++ dktX7_factOf_3
def dkwX7_factOf_1 : List UInt8 := [170, 0, 0, 0, 0, 0, 142, 0, 0, 0, 97, 0, 0, 0, 121, 0, 0, 0, 133, 0, 0, 0, 142, 0, 0, 0, 142, 0, 0, 0, 130, 0, 0, 0, 142, 0, 0, 0, 142, 0, 0, 0, 142, 0, 0, 0, 142, 0, 0, 0, 115, 0, 0, 0, 117, 0, 0, 0, 142, 0, 0, 0, 142, 0, 0, 0, 142, 0, 0, 0, 142, 0, 0, 0, 142, 0, 0, 0, 136, 0, 0, 0, 139, 0, 0, 0, 142, 0, 0, 0, 119, 0, 0, 0, 142, 0, 0, 0, 125, 0, 0, 0, 127, 0, 0, 0, 142, 0, 0, 0, 121, 0, 0, 0, 123]
abbrev dktX7_factOf_1 : List UInt8 := dkwX7_factOf_1 ++ dktX7_factOf_2
def dkwX7_factOf_0 : List UInt8 := [26]
abbrev dktX7_factOf_0 : List UInt8 := dkwX7_factOf_0 ++ dktX7_factOf_1
theorem dksX7_factOf_0 : cX7_factOf.data.toList.drop 0 = dktX7_factOf_0 := by decide +kernel
theorem dksX7_factOf_1 : cX7_factOf.data.toList.drop 1 = dktX7_factOf_1 := dk_seg dksX7_factOf_0 1 rfl rfl
theorem dksX7_factOf_2 : cX7_factOf.data.toList.drop 116 = dktX7_factOf_2 := dk_seg dksX7_factOf_1 115 rfl rfl
theorem dksX7_factOf_3 : cX7_factOf.data.toList.drop 140 = dktX7_factOf_3 := dk_seg dksX7_factOf_2 24 rfl rfl
theorem dX7_factOf_0 : decode cX7_factOf 0 = .ok (.iload_n 0, 1) := dk_26 (dk_at dksX7_factOf_0 0 rfl rfl)
theorem dX7_factOf_1 : decode cX7_factOf 1 = .ok (.tableswitch 142 97 121 #[133, 142, 142, 130, 142, 142, 142, 142, 115, 117, 142, 142, 142, 142, 142, 136, 139, 142, 119, 142, 125, 127, 142, 121, 123], 115) := by decide +kernel
theorem dX7_factOf_116 : decode cX7_factOf 116 = .ok (.iconst 0, 1) := dk_3 (dk_at dksX7_factOf_2 0 rfl rfl)
theorem dX7_factOf_117 : decode cX7_factOf 117 = .ok (.ireturn, 1) := dk_172 (dk_at dksX7_factOf_2 1 rfl rfl)
theorem dX7_factOf_118 : decode cX7_factOf 118 = .ok (.iconst 1, 1) := dk_4 (dk_at dksX7_factOf_2 2 rfl rfl)
theorem dX7_factOf_119 : decode cX7_factOf 119 = .ok (.ireturn, 1) := dk_172 (dk_at dksX7_factOf_2 3 rfl rfl)
theorem dX7_factOf_120 : decode cX7_factOf 120 = .ok (.iconst 2, 1) := dk_5 (dk_at dksX7_factOf_2 4 rfl rfl)
theorem dX7_factOf_121 : decode cX7_factOf 121 = .ok (.ireturn, 1) := dk_172 (dk_at dksX7_factOf_2 5 rfl rfl)
theorem dX7_factOf_122 : decode cX7_factOf 122 = .ok (.iconst 3, 1) := dk_6 (dk_at dksX7_factOf_2 6 rfl rfl)
theorem dX7_factOf_123 : decode cX7_factOf 123 = .ok (.ireturn, 1) := dk_172 (dk_at dksX7_factOf_2 7 rfl rfl)
theorem dX7_factOf_124 : decode cX7_factOf 124 = .ok (.iconst 4, 1) := dk_7 (dk_at dksX7_factOf_2 8 rfl rfl)
theorem dX7_factOf_125 : decode cX7_factOf 125 = .ok (.ireturn, 1) := dk_172 (dk_at dksX7_factOf_2 9 rfl rfl)
theorem dX7_factOf_126 : decode cX7_factOf 126 = .ok (.iconst 5, 1) := dk_8 (dk_at dksX7_factOf_2 10 rfl rfl)
theorem dX7_factOf_127 : decode cX7_factOf 127 = .ok (.ireturn, 1) := dk_172 (dk_at dksX7_factOf_2 11 rfl rfl)
theorem dX7_factOf_128 : decode cX7_factOf 128 = .ok (.bipush 6, 2) := dk_16 6 (dk_at dksX7_factOf_2 12 rfl rfl)
theorem dX7_factOf_130 : decode cX7_factOf 130 = .ok (.ireturn, 1) := dk_172 (dk_at dksX7_factOf_2 14 rfl rfl)
theorem dX7_factOf_131 : decode cX7_factOf 131 = .ok (.bipush 7, 2) := dk_16 7 (dk_at dksX7_factOf_2 15 rfl rfl)
theorem dX7_factOf_133 : decode cX7_factOf 133 = .ok (.ireturn, 1) := dk_172 (dk_at dksX7_factOf_2 17 rfl rfl)
theorem dX7_factOf_134 : decode cX7_factOf 134 = .ok (.bipush 8, 2) := dk_16 8 (dk_at dksX7_factOf_2 18 rfl rfl)
theorem dX7_factOf_136 : decode cX7_factOf 136 = .ok (.ireturn, 1) := dk_172 (dk_at dksX7_factOf_2 20 rfl rfl)
theorem dX7_factOf_137 : decode cX7_factOf 137 = .ok (.bipush 9, 2) := dk_16 9 (dk_at dksX7_factOf_2 21 rfl rfl)
theorem dX7_factOf_139 : decode cX7_factOf 139 = .ok (.ireturn, 1) := dk_172 (dk_at dksX7_factOf_2 23 rfl rfl)
theorem dX7_factOf_140 : decode cX7_factOf 140 = .ok (.bipush 10, 2) := dk_16 10 (dk_at dksX7_factOf_3 0 rfl rfl)
theorem dX7_factOf_142 : decode cX7_factOf 142 = .ok (.ireturn, 1) := dk_172 (dk_at dksX7_factOf_3 2 rfl rfl)
theorem dX7_factOf_143 : decode cX7_factOf 143 = .ok (.iconst (-1), 1) := dk_2 (dk_at dksX7_factOf_3 3 rfl rfl)
theorem dX7_factOf_144 : decode cX7_factOf 144 = .ok (.ireturn, 1) := dk_172 (dk_at dksX7_factOf_3 4 rfl rfl)
abbrev cX7_sumSign : ByteArray := prog_21_method_30_code
def yX7_sumSign : MethodName := ⟨RX7, "sumSign", "(I)I"⟩
def dkwX7_sumSign_2 : List UInt8 := [16, 6, 167, 0, 4, 2, 172]
abbrev dktX7_sumSign_2 : List UInt8 := dkwX7_sumSign_2 ++ []
def dkwX7_sumSign_1 : List UInt8 := [160, 0, 7, 7, 167, 0, 25, 26, 16, 47, 160, 0, 7, 8, 167, 0, 15, 26, 16, 37, 160, 0, 8]
abbrev dktX7_sumSign_1 : List UInt8 := dkwX7_sumSign_1 ++ dktX7_sumSign_2
def dkwX7_sumSign_0 : List UInt8 := [26, 16, 43, 160, 0, 7, 5, 167, 0, 45, 26, 16, 45, 160, 0, 7, 6, 167, 0, 35, 26, 16, 42]
abbrev dktX7_sumSign_0 : List UInt8 := dkwX7_sumSign_0 ++ dktX7_sumSign_1
theorem dksX7_sumSign_0 : cX7_sumSign.data.toList.drop 0 = dktX7_sumSign_0 := by decide +kernel
theorem dksX7_sumSign_1 : cX7_sumSign.data.toList.drop 23 = dktX7_sumSign_1 := dk_seg dksX7_sumSign_0 23 rfl rfl
theorem dksX7_sumSign_2 : cX7_sumSign.data.toList.drop 46 = dktX7_sumSign_2 := dk_seg dksX7_sumSign_1 23 rfl rfl
theorem dX7_sumSign_0 : decode cX7_sumSign 0 = .ok (.iload_n 0, 1) := dk_26 (dk_at dksX7_sumSign_0 0 rfl rfl)
theorem dX7_sumSign_1 : decode cX7_sumSign 1 = .ok (.bipush 43, 2) := dk_16 43 (dk_at dksX7_sumSign_0 1 rfl rfl)
theorem dX7_sumSign_3 : decode cX7_sumSign 3 = .ok (.if_icmp .ne 7, 3) := dk_160 0 7 (dk_at dksX7_sumSign_0 3 rfl rfl)
theorem dX7_sumSign_6 : decode cX7_sumSign 6 = .ok (.iconst 2, 1) := dk_5 (dk_at dksX7_sumSign_0 6 rfl rfl)
theorem dX7_sumSign_7 : decode cX7_sumSign 7 = .ok (.goto 45, 3) := dk_167 0 45 (dk_at dksX7_sumSign_0 7 rfl rfl)
theorem dX7_sumSign_10 : decode cX7_sumSign 10 = .ok (.iload_n 0, 1) := dk_26 (dk_at dksX7_sumSign_0 10 rfl rfl)
theorem dX7_sumSign_11 : decode cX7_sumSign 11 = .ok (.bipush 45, 2) := dk_16 45 (dk_at dksX7_sumSign_0 11 rfl rfl)
theorem dX7_sumSign_13 : decode cX7_sumSign 13 = .ok (.if_icmp .ne 7, 3) := dk_160 0 7 (dk_at dksX7_sumSign_0 13 rfl rfl)
theorem dX7_sumSign_16 : decode cX7_sumSign 16 = .ok (.iconst 3, 1) := dk_6 (dk_at dksX7_sumSign_0 16 rfl rfl)
theorem dX7_sumSign_17 : decode cX7_sumSign 17 = .ok (.goto 35, 3) := dk_167 0 35 (dk_at dksX7_sumSign_0 17 rfl rfl)
theorem dX7_sumSign_20 : decode cX7_sumSign 20 = .ok (.iload_n 0, 1) := dk_26 (dk_at dksX7_sumSign_0 20 rfl rfl)
theorem dX7_sumSign_21 : decode cX7_sumSign 21 = .ok (.bipush 42, 2) := dk_16 42 (dk_at dksX7_sumSign_0 21 rfl rfl)
theorem dX7_sumSign_23 : decode cX7_sumSign 23 = .ok (.if_icmp .ne 7, 3) := dk_160 0 7 (dk_at dksX7_sumSign_1 0 rfl rfl)
theorem dX7_sumSign_26 : decode cX7_sumSign 26 = .ok (.iconst 4, 1) := dk_7 (dk_at dksX7_sumSign_1 3 rfl rfl)
theorem dX7_sumSign_27 : decode cX7_sumSign 27 = .ok (.goto 25, 3) := dk_167 0 25 (dk_at dksX7_sumSign_1 4 rfl rfl)
theorem dX7_sumSign_30 : decode cX7_sumSign 30 = .ok (.iload_n 0, 1) := dk_26 (dk_at dksX7_sumSign_1 7 rfl rfl)
theorem dX7_sumSign_31 : decode cX7_sumSign 31 = .ok (.bipush 47, 2) := dk_16 47 (dk_at dksX7_sumSign_1 8 rfl rfl)
theorem dX7_sumSign_33 : decode cX7_sumSign 33 = .ok (.if_icmp .ne 7, 3) := dk_160 0 7 (dk_at dksX7_sumSign_1 10 rfl rfl)
theorem dX7_sumSign_36 : decode cX7_sumSign 36 = .ok (.iconst 5, 1) := dk_8 (dk_at dksX7_sumSign_1 13 rfl rfl)
theorem dX7_sumSign_37 : decode cX7_sumSign 37 = .ok (.goto 15, 3) := dk_167 0 15 (dk_at dksX7_sumSign_1 14 rfl rfl)
theorem dX7_sumSign_40 : decode cX7_sumSign 40 = .ok (.iload_n 0, 1) := dk_26 (dk_at dksX7_sumSign_1 17 rfl rfl)
theorem dX7_sumSign_41 : decode cX7_sumSign 41 = .ok (.bipush 37, 2) := dk_16 37 (dk_at dksX7_sumSign_1 18 rfl rfl)
theorem dX7_sumSign_43 : decode cX7_sumSign 43 = .ok (.if_icmp .ne 8, 3) := dk_160 0 8 (dk_at dksX7_sumSign_1 20 rfl rfl)
theorem dX7_sumSign_46 : decode cX7_sumSign 46 = .ok (.bipush 6, 2) := dk_16 6 (dk_at dksX7_sumSign_2 0 rfl rfl)
theorem dX7_sumSign_48 : decode cX7_sumSign 48 = .ok (.goto 4, 3) := dk_167 0 4 (dk_at dksX7_sumSign_2 2 rfl rfl)
theorem dX7_sumSign_51 : decode cX7_sumSign 51 = .ok (.iconst (-1), 1) := dk_2 (dk_at dksX7_sumSign_2 5 rfl rfl)
theorem dX7_sumSign_52 : decode cX7_sumSign 52 = .ok (.ireturn, 1) := dk_172 (dk_at dksX7_sumSign_2 6 rfl rfl)
abbrev cX7_closesSums : ByteArray := prog_21_method_31_code
def yX7_closesSums : MethodName := ⟨RX7, "closesSums", "(Z)V"⟩
def dkwX7_closesSums_2 : List UInt8 := [42, 42, 180, 0, 163, 4, 100, 181, 0, 163, 167, 255, 200, 177]
abbrev dktX7_closesSums_2 : List UInt8 := dkwX7_closesSums_2 ++ []
def dkwX7_closesSums_1 : List UInt8 := [182, 0, 166, 5, 159, 0, 11, 42, 182, 0, 166, 6, 160, 0, 25, 42, 42, 182, 0, 166, 3, 182, 0, 169]
abbrev dktX7_closesSums_1 : List UInt8 := dkwX7_closesSums_1 ++ dktX7_closesSums_2
def dkwX7_closesSums_0 : List UInt8 := [42, 182, 0, 166, 7, 161, 0, 12, 42, 182, 0, 166, 16, 6, 164, 0, 23, 27, 153, 0, 41, 42]
abbrev dktX7_closesSums_0 : List UInt8 := dkwX7_closesSums_0 ++ dktX7_closesSums_1
theorem dksX7_closesSums_0 : cX7_closesSums.data.toList.drop 0 = dktX7_closesSums_0 := by decide +kernel
theorem dksX7_closesSums_1 : cX7_closesSums.data.toList.drop 22 = dktX7_closesSums_1 := dk_seg dksX7_closesSums_0 22 rfl rfl
theorem dksX7_closesSums_2 : cX7_closesSums.data.toList.drop 46 = dktX7_closesSums_2 := dk_seg dksX7_closesSums_1 24 rfl rfl
theorem dX7_closesSums_0 : decode cX7_closesSums 0 = .ok (.aload_n 0, 1) := dk_42 (dk_at dksX7_closesSums_0 0 rfl rfl)
theorem dX7_closesSums_1 : decode cX7_closesSums 1 = .ok (.invokevirtual 166, 3) := dk_182 0 166 (dk_at dksX7_closesSums_0 1 rfl rfl)
theorem dX7_closesSums_4 : decode cX7_closesSums 4 = .ok (.iconst 4, 1) := dk_7 (dk_at dksX7_closesSums_0 4 rfl rfl)
theorem dX7_closesSums_5 : decode cX7_closesSums 5 = .ok (.if_icmp .lt 12, 3) := dk_161 0 12 (dk_at dksX7_closesSums_0 5 rfl rfl)
theorem dX7_closesSums_8 : decode cX7_closesSums 8 = .ok (.aload_n 0, 1) := dk_42 (dk_at dksX7_closesSums_0 8 rfl rfl)
theorem dX7_closesSums_9 : decode cX7_closesSums 9 = .ok (.invokevirtual 166, 3) := dk_182 0 166 (dk_at dksX7_closesSums_0 9 rfl rfl)
theorem dX7_closesSums_12 : decode cX7_closesSums 12 = .ok (.bipush 6, 2) := dk_16 6 (dk_at dksX7_closesSums_0 12 rfl rfl)
theorem dX7_closesSums_14 : decode cX7_closesSums 14 = .ok (.if_icmp .le 23, 3) := dk_164 0 23 (dk_at dksX7_closesSums_0 14 rfl rfl)
theorem dX7_closesSums_17 : decode cX7_closesSums 17 = .ok (.iload_n 1, 1) := dk_27 (dk_at dksX7_closesSums_0 17 rfl rfl)
theorem dX7_closesSums_18 : decode cX7_closesSums 18 = .ok (.ifCond .eq 41, 3) := dk_153 0 41 (dk_at dksX7_closesSums_0 18 rfl rfl)
theorem dX7_closesSums_21 : decode cX7_closesSums 21 = .ok (.aload_n 0, 1) := dk_42 (dk_at dksX7_closesSums_0 21 rfl rfl)
theorem dX7_closesSums_22 : decode cX7_closesSums 22 = .ok (.invokevirtual 166, 3) := dk_182 0 166 (dk_at dksX7_closesSums_1 0 rfl rfl)
theorem dX7_closesSums_25 : decode cX7_closesSums 25 = .ok (.iconst 2, 1) := dk_5 (dk_at dksX7_closesSums_1 3 rfl rfl)
theorem dX7_closesSums_26 : decode cX7_closesSums 26 = .ok (.if_icmp .eq 11, 3) := dk_159 0 11 (dk_at dksX7_closesSums_1 4 rfl rfl)
theorem dX7_closesSums_29 : decode cX7_closesSums 29 = .ok (.aload_n 0, 1) := dk_42 (dk_at dksX7_closesSums_1 7 rfl rfl)
theorem dX7_closesSums_30 : decode cX7_closesSums 30 = .ok (.invokevirtual 166, 3) := dk_182 0 166 (dk_at dksX7_closesSums_1 8 rfl rfl)
theorem dX7_closesSums_33 : decode cX7_closesSums 33 = .ok (.iconst 3, 1) := dk_6 (dk_at dksX7_closesSums_1 11 rfl rfl)
theorem dX7_closesSums_34 : decode cX7_closesSums 34 = .ok (.if_icmp .ne 25, 3) := dk_160 0 25 (dk_at dksX7_closesSums_1 12 rfl rfl)
theorem dX7_closesSums_37 : decode cX7_closesSums 37 = .ok (.aload_n 0, 1) := dk_42 (dk_at dksX7_closesSums_1 15 rfl rfl)
theorem dX7_closesSums_38 : decode cX7_closesSums 38 = .ok (.aload_n 0, 1) := dk_42 (dk_at dksX7_closesSums_1 16 rfl rfl)
theorem dX7_closesSums_39 : decode cX7_closesSums 39 = .ok (.invokevirtual 166, 3) := dk_182 0 166 (dk_at dksX7_closesSums_1 17 rfl rfl)
theorem dX7_closesSums_42 : decode cX7_closesSums 42 = .ok (.iconst 0, 1) := dk_3 (dk_at dksX7_closesSums_1 20 rfl rfl)
theorem dX7_closesSums_43 : decode cX7_closesSums 43 = .ok (.invokevirtual 169, 3) := dk_182 0 169 (dk_at dksX7_closesSums_1 21 rfl rfl)
theorem dX7_closesSums_46 : decode cX7_closesSums 46 = .ok (.aload_n 0, 1) := dk_42 (dk_at dksX7_closesSums_2 0 rfl rfl)
theorem dX7_closesSums_47 : decode cX7_closesSums 47 = .ok (.aload_n 0, 1) := dk_42 (dk_at dksX7_closesSums_2 1 rfl rfl)
theorem dX7_closesSums_48 : decode cX7_closesSums 48 = .ok (.getfield 163, 3) := dk_180 0 163 (dk_at dksX7_closesSums_2 2 rfl rfl)
theorem dX7_closesSums_51 : decode cX7_closesSums 51 = .ok (.iconst 1, 1) := dk_4 (dk_at dksX7_closesSums_2 5 rfl rfl)
theorem dX7_closesSums_52 : decode cX7_closesSums 52 = .ok (.isub, 1) := dk_100 (dk_at dksX7_closesSums_2 6 rfl rfl)
theorem dX7_closesSums_53 : decode cX7_closesSums 53 = .ok (.putfield 163, 3) := dk_181 0 163 (dk_at dksX7_closesSums_2 7 rfl rfl)
theorem dX7_closesSums_56 : decode cX7_closesSums 56 = .ok (.goto (-56), 3) := dk_167 255 200 (dk_at dksX7_closesSums_2 10 rfl rfl)
theorem dX7_closesSums_59 : decode cX7_closesSums 59 = .ok (.return_, 1) := dk_177 (dk_at dksX7_closesSums_2 13 rfl rfl)
abbrev cX7_waitTop : ByteArray := prog_21_method_28_code
def yX7_waitTop : MethodName := ⟨RX7, "waitTop", "()I"⟩
def dkwX7_waitTop_1 : List UInt8 := [108, 172]
abbrev dktX7_waitTop_1 : List UInt8 := dkwX7_waitTop_1 ++ []
def dkwX7_waitTop_0 : List UInt8 := [42, 180, 0, 163, 154, 0, 7, 2, 167, 0, 17, 42, 180, 0, 26, 42, 180, 0, 163, 4, 100, 46, 18, 159]
abbrev dktX7_waitTop_0 : List UInt8 := dkwX7_waitTop_0 ++ dktX7_waitTop_1
theorem dksX7_waitTop_0 : cX7_waitTop.data.toList.drop 0 = dktX7_waitTop_0 := by decide +kernel
theorem dksX7_waitTop_1 : cX7_waitTop.data.toList.drop 24 = dktX7_waitTop_1 := dk_seg dksX7_waitTop_0 24 rfl rfl
theorem dX7_waitTop_0 : decode cX7_waitTop 0 = .ok (.aload_n 0, 1) := dk_42 (dk_at dksX7_waitTop_0 0 rfl rfl)
theorem dX7_waitTop_1 : decode cX7_waitTop 1 = .ok (.getfield 163, 3) := dk_180 0 163 (dk_at dksX7_waitTop_0 1 rfl rfl)
theorem dX7_waitTop_4 : decode cX7_waitTop 4 = .ok (.ifCond .ne 7, 3) := dk_154 0 7 (dk_at dksX7_waitTop_0 4 rfl rfl)
theorem dX7_waitTop_7 : decode cX7_waitTop 7 = .ok (.iconst (-1), 1) := dk_2 (dk_at dksX7_waitTop_0 7 rfl rfl)
theorem dX7_waitTop_8 : decode cX7_waitTop 8 = .ok (.goto 17, 3) := dk_167 0 17 (dk_at dksX7_waitTop_0 8 rfl rfl)
theorem dX7_waitTop_11 : decode cX7_waitTop 11 = .ok (.aload_n 0, 1) := dk_42 (dk_at dksX7_waitTop_0 11 rfl rfl)
theorem dX7_waitTop_12 : decode cX7_waitTop 12 = .ok (.getfield 26, 3) := dk_180 0 26 (dk_at dksX7_waitTop_0 12 rfl rfl)
theorem dX7_waitTop_15 : decode cX7_waitTop 15 = .ok (.aload_n 0, 1) := dk_42 (dk_at dksX7_waitTop_0 15 rfl rfl)
theorem dX7_waitTop_16 : decode cX7_waitTop 16 = .ok (.getfield 163, 3) := dk_180 0 163 (dk_at dksX7_waitTop_0 16 rfl rfl)
theorem dX7_waitTop_19 : decode cX7_waitTop 19 = .ok (.iconst 1, 1) := dk_4 (dk_at dksX7_waitTop_0 19 rfl rfl)
theorem dX7_waitTop_20 : decode cX7_waitTop 20 = .ok (.isub, 1) := dk_100 (dk_at dksX7_waitTop_0 20 rfl rfl)
theorem dX7_waitTop_21 : decode cX7_waitTop 21 = .ok (.iaload, 1) := dk_46 (dk_at dksX7_waitTop_0 21 rfl rfl)
theorem dX7_waitTop_22 : decode cX7_waitTop 22 = .ok (.ldc 159, 2) := dk_18 159 (dk_at dksX7_waitTop_0 22 rfl rfl)
theorem dX7_waitTop_24 : decode cX7_waitTop 24 = .ok (.idiv, 1) := dk_108 (dk_at dksX7_waitTop_1 0 rfl rfl)
theorem dX7_waitTop_25 : decode cX7_waitTop 25 = .ok (.ireturn, 1) := dk_172 (dk_at dksX7_waitTop_1 1 rfl rfl)
abbrev cX7_hasOpenSum : ByteArray := prog_21_method_33_code
def yX7_hasOpenSum : MethodName := ⟨RX7, "hasOpenSum", "(I)Z"⟩
def dkwX7_hasOpenSum_1 : List UInt8 := [4, 172, 132, 2, 1, 167, 255, 229, 3, 172]
abbrev dktX7_hasOpenSum_1 : List UInt8 := dkwX7_hasOpenSum_1 ++ []
def dkwX7_hasOpenSum_0 : List UInt8 := [27, 61, 28, 42, 180, 0, 163, 162, 0, 25, 42, 180, 0, 26, 28, 46, 18, 159, 108, 16, 14, 160, 0, 5]
abbrev dktX7_hasOpenSum_0 : List UInt8 := dkwX7_hasOpenSum_0 ++ dktX7_hasOpenSum_1
theorem dksX7_hasOpenSum_0 : cX7_hasOpenSum.data.toList.drop 0 = dktX7_hasOpenSum_0 := by decide +kernel
theorem dksX7_hasOpenSum_1 : cX7_hasOpenSum.data.toList.drop 24 = dktX7_hasOpenSum_1 := dk_seg dksX7_hasOpenSum_0 24 rfl rfl
theorem dX7_hasOpenSum_0 : decode cX7_hasOpenSum 0 = .ok (.iload_n 1, 1) := dk_27 (dk_at dksX7_hasOpenSum_0 0 rfl rfl)
theorem dX7_hasOpenSum_1 : decode cX7_hasOpenSum 1 = .ok (.istore_n 2, 1) := dk_61 (dk_at dksX7_hasOpenSum_0 1 rfl rfl)
theorem dX7_hasOpenSum_2 : decode cX7_hasOpenSum 2 = .ok (.iload_n 2, 1) := dk_28 (dk_at dksX7_hasOpenSum_0 2 rfl rfl)
theorem dX7_hasOpenSum_3 : decode cX7_hasOpenSum 3 = .ok (.aload_n 0, 1) := dk_42 (dk_at dksX7_hasOpenSum_0 3 rfl rfl)
theorem dX7_hasOpenSum_4 : decode cX7_hasOpenSum 4 = .ok (.getfield 163, 3) := dk_180 0 163 (dk_at dksX7_hasOpenSum_0 4 rfl rfl)
theorem dX7_hasOpenSum_7 : decode cX7_hasOpenSum 7 = .ok (.if_icmp .ge 25, 3) := dk_162 0 25 (dk_at dksX7_hasOpenSum_0 7 rfl rfl)
theorem dX7_hasOpenSum_10 : decode cX7_hasOpenSum 10 = .ok (.aload_n 0, 1) := dk_42 (dk_at dksX7_hasOpenSum_0 10 rfl rfl)
theorem dX7_hasOpenSum_11 : decode cX7_hasOpenSum 11 = .ok (.getfield 26, 3) := dk_180 0 26 (dk_at dksX7_hasOpenSum_0 11 rfl rfl)
theorem dX7_hasOpenSum_14 : decode cX7_hasOpenSum 14 = .ok (.iload_n 2, 1) := dk_28 (dk_at dksX7_hasOpenSum_0 14 rfl rfl)
theorem dX7_hasOpenSum_15 : decode cX7_hasOpenSum 15 = .ok (.iaload, 1) := dk_46 (dk_at dksX7_hasOpenSum_0 15 rfl rfl)
theorem dX7_hasOpenSum_16 : decode cX7_hasOpenSum 16 = .ok (.ldc 159, 2) := dk_18 159 (dk_at dksX7_hasOpenSum_0 16 rfl rfl)
theorem dX7_hasOpenSum_18 : decode cX7_hasOpenSum 18 = .ok (.idiv, 1) := dk_108 (dk_at dksX7_hasOpenSum_0 18 rfl rfl)
theorem dX7_hasOpenSum_19 : decode cX7_hasOpenSum 19 = .ok (.bipush 14, 2) := dk_16 14 (dk_at dksX7_hasOpenSum_0 19 rfl rfl)
theorem dX7_hasOpenSum_21 : decode cX7_hasOpenSum 21 = .ok (.if_icmp .ne 5, 3) := dk_160 0 5 (dk_at dksX7_hasOpenSum_0 21 rfl rfl)
theorem dX7_hasOpenSum_24 : decode cX7_hasOpenSum 24 = .ok (.iconst 1, 1) := dk_4 (dk_at dksX7_hasOpenSum_1 0 rfl rfl)
theorem dX7_hasOpenSum_25 : decode cX7_hasOpenSum 25 = .ok (.ireturn, 1) := dk_172 (dk_at dksX7_hasOpenSum_1 1 rfl rfl)
theorem dX7_hasOpenSum_26 : decode cX7_hasOpenSum 26 = .ok (.iinc 2 1, 3) := dk_132 2 1 (dk_at dksX7_hasOpenSum_1 2 rfl rfl)
theorem dX7_hasOpenSum_29 : decode cX7_hasOpenSum 29 = .ok (.goto (-27), 3) := dk_167 255 229 (dk_at dksX7_hasOpenSum_1 5 rfl rfl)
theorem dX7_hasOpenSum_32 : decode cX7_hasOpenSum 32 = .ok (.iconst 0, 1) := dk_3 (dk_at dksX7_hasOpenSum_1 8 rfl rfl)
theorem dX7_hasOpenSum_33 : decode cX7_hasOpenSum 33 = .ok (.ireturn, 1) := dk_172 (dk_at dksX7_hasOpenSum_1 9 rfl rfl)
abbrev cX7_readsCondition : ByteArray := prog_21_method_39_code
def yX7_readsCondition : MethodName := ⟨RX7, "readsCondition", "()Z"⟩
def dkwX7_readsCondition_9 : List UInt8 := [16, 11, 167, 0, 5, 16, 12, 182, 0, 207, 167, 255, 78]
abbrev dktX7_readsCondition_9 : List UInt8 := dkwX7_readsCondition_9 ++ []
def dkwX7_readsCondition_8 : List UInt8 := [16, 124, 160, 0, 7, 4, 167, 0, 4, 3, 182, 0, 204, 42, 42, 182, 0, 139, 16, 38, 160, 0, 8]
abbrev dktX7_readsCondition_8 : List UInt8 := dkwX7_readsCondition_8 ++ dktX7_readsCondition_9
def dkwX7_readsCondition_7 : List UInt8 := [182, 0, 139, 16, 124, 159, 0, 13, 42, 4, 42, 180, 0, 133, 182, 0, 146, 172, 42, 42, 182, 0, 139]
abbrev dktX7_readsCondition_7 : List UInt8 := dkwX7_readsCondition_7 ++ dktX7_readsCondition_8
def dkwX7_readsCondition_6 : List UInt8 := [154, 0, 5, 4, 172, 42, 182, 0, 198, 167, 255, 199, 42, 182, 0, 139, 16, 38, 159, 0, 22, 42]
abbrev dktX7_readsCondition_6 : List UInt8 := dkwX7_readsCondition_6 ++ dktX7_readsCondition_7
def dkwX7_readsCondition_5 : List UInt8 := [42, 180, 0, 160, 4, 100, 181, 0, 160, 42, 42, 180, 0, 133, 4, 96, 181, 0, 133, 42, 180, 0, 163]
abbrev dktX7_readsCondition_5 : List UInt8 := dkwX7_readsCondition_5 ++ dktX7_readsCondition_6
def dkwX7_readsCondition_4 : List UInt8 := [182, 0, 139, 16, 41, 160, 0, 54, 42, 4, 182, 0, 204, 42, 42, 180, 0, 163, 4, 100, 181, 0, 163, 42]
abbrev dktX7_readsCondition_4 : List UInt8 := dkwX7_readsCondition_4 ++ dktX7_readsCondition_5
def dkwX7_readsCondition_3 : List UInt8 := [167, 0, 5, 16, 13, 182, 0, 172, 154, 255, 218, 3, 172, 42, 182, 0, 201, 154, 0, 5, 3, 172, 42]
abbrev dktX7_readsCondition_3 : List UInt8 := dkwX7_readsCondition_3 ++ dktX7_readsCondition_4
def dkwX7_readsCondition_2 : List UInt8 := [159, 0, 12, 42, 182, 0, 139, 16, 40, 160, 0, 28, 42, 42, 182, 0, 139, 16, 33, 160, 0, 8, 16, 10]
abbrev dktX7_readsCondition_2 : List UInt8 := dkwX7_readsCondition_2 ++ dktX7_readsCondition_3
def dkwX7_readsCondition_1 : List UInt8 := [42, 3, 181, 0, 163, 42, 16, 13, 182, 0, 172, 154, 0, 5, 3, 172, 42, 182, 0, 139, 16, 33]
abbrev dktX7_readsCondition_1 : List UInt8 := dkwX7_readsCondition_1 ++ dktX7_readsCondition_2
def dkwX7_readsCondition_0 : List UInt8 := [42, 182, 0, 139, 16, 40, 159, 0, 13, 42, 4, 42, 180, 0, 133, 182, 0, 146, 172, 42, 3, 181, 0, 160]
abbrev dktX7_readsCondition_0 : List UInt8 := dkwX7_readsCondition_0 ++ dktX7_readsCondition_1
theorem dksX7_readsCondition_0 : cX7_readsCondition.data.toList.drop 0 = dktX7_readsCondition_0 := by decide +kernel
theorem dksX7_readsCondition_1 : cX7_readsCondition.data.toList.drop 24 = dktX7_readsCondition_1 := dk_seg dksX7_readsCondition_0 24 rfl rfl
theorem dksX7_readsCondition_2 : cX7_readsCondition.data.toList.drop 46 = dktX7_readsCondition_2 := dk_seg dksX7_readsCondition_1 22 rfl rfl
theorem dksX7_readsCondition_3 : cX7_readsCondition.data.toList.drop 70 = dktX7_readsCondition_3 := dk_seg dksX7_readsCondition_2 24 rfl rfl
theorem dksX7_readsCondition_4 : cX7_readsCondition.data.toList.drop 93 = dktX7_readsCondition_4 := dk_seg dksX7_readsCondition_3 23 rfl rfl
theorem dksX7_readsCondition_5 : cX7_readsCondition.data.toList.drop 117 = dktX7_readsCondition_5 := dk_seg dksX7_readsCondition_4 24 rfl rfl
theorem dksX7_readsCondition_6 : cX7_readsCondition.data.toList.drop 140 = dktX7_readsCondition_6 := dk_seg dksX7_readsCondition_5 23 rfl rfl
theorem dksX7_readsCondition_7 : cX7_readsCondition.data.toList.drop 162 = dktX7_readsCondition_7 := dk_seg dksX7_readsCondition_6 22 rfl rfl
theorem dksX7_readsCondition_8 : cX7_readsCondition.data.toList.drop 185 = dktX7_readsCondition_8 := dk_seg dksX7_readsCondition_7 23 rfl rfl
theorem dksX7_readsCondition_9 : cX7_readsCondition.data.toList.drop 208 = dktX7_readsCondition_9 := dk_seg dksX7_readsCondition_8 23 rfl rfl
theorem dX7_readsCondition_0 : decode cX7_readsCondition 0 = .ok (.aload_n 0, 1) := dk_42 (dk_at dksX7_readsCondition_0 0 rfl rfl)
theorem dX7_readsCondition_1 : decode cX7_readsCondition 1 = .ok (.invokevirtual 139, 3) := dk_182 0 139 (dk_at dksX7_readsCondition_0 1 rfl rfl)
theorem dX7_readsCondition_4 : decode cX7_readsCondition 4 = .ok (.bipush 40, 2) := dk_16 40 (dk_at dksX7_readsCondition_0 4 rfl rfl)
theorem dX7_readsCondition_6 : decode cX7_readsCondition 6 = .ok (.if_icmp .eq 13, 3) := dk_159 0 13 (dk_at dksX7_readsCondition_0 6 rfl rfl)
theorem dX7_readsCondition_9 : decode cX7_readsCondition 9 = .ok (.aload_n 0, 1) := dk_42 (dk_at dksX7_readsCondition_0 9 rfl rfl)
theorem dX7_readsCondition_10 : decode cX7_readsCondition 10 = .ok (.iconst 1, 1) := dk_4 (dk_at dksX7_readsCondition_0 10 rfl rfl)
theorem dX7_readsCondition_11 : decode cX7_readsCondition 11 = .ok (.aload_n 0, 1) := dk_42 (dk_at dksX7_readsCondition_0 11 rfl rfl)
theorem dX7_readsCondition_12 : decode cX7_readsCondition 12 = .ok (.getfield 133, 3) := dk_180 0 133 (dk_at dksX7_readsCondition_0 12 rfl rfl)
theorem dX7_readsCondition_15 : decode cX7_readsCondition 15 = .ok (.invokevirtual 146, 3) := dk_182 0 146 (dk_at dksX7_readsCondition_0 15 rfl rfl)
theorem dX7_readsCondition_18 : decode cX7_readsCondition 18 = .ok (.ireturn, 1) := dk_172 (dk_at dksX7_readsCondition_0 18 rfl rfl)
theorem dX7_readsCondition_19 : decode cX7_readsCondition 19 = .ok (.aload_n 0, 1) := dk_42 (dk_at dksX7_readsCondition_0 19 rfl rfl)
theorem dX7_readsCondition_20 : decode cX7_readsCondition 20 = .ok (.iconst 0, 1) := dk_3 (dk_at dksX7_readsCondition_0 20 rfl rfl)
theorem dX7_readsCondition_21 : decode cX7_readsCondition 21 = .ok (.putfield 160, 3) := dk_181 0 160 (dk_at dksX7_readsCondition_0 21 rfl rfl)
theorem dX7_readsCondition_24 : decode cX7_readsCondition 24 = .ok (.aload_n 0, 1) := dk_42 (dk_at dksX7_readsCondition_1 0 rfl rfl)
theorem dX7_readsCondition_25 : decode cX7_readsCondition 25 = .ok (.iconst 0, 1) := dk_3 (dk_at dksX7_readsCondition_1 1 rfl rfl)
theorem dX7_readsCondition_26 : decode cX7_readsCondition 26 = .ok (.putfield 163, 3) := dk_181 0 163 (dk_at dksX7_readsCondition_1 2 rfl rfl)
theorem dX7_readsCondition_29 : decode cX7_readsCondition 29 = .ok (.aload_n 0, 1) := dk_42 (dk_at dksX7_readsCondition_1 5 rfl rfl)
theorem dX7_readsCondition_30 : decode cX7_readsCondition 30 = .ok (.bipush 13, 2) := dk_16 13 (dk_at dksX7_readsCondition_1 6 rfl rfl)
theorem dX7_readsCondition_32 : decode cX7_readsCondition 32 = .ok (.invokevirtual 172, 3) := dk_182 0 172 (dk_at dksX7_readsCondition_1 8 rfl rfl)
theorem dX7_readsCondition_35 : decode cX7_readsCondition 35 = .ok (.ifCond .ne 5, 3) := dk_154 0 5 (dk_at dksX7_readsCondition_1 11 rfl rfl)
theorem dX7_readsCondition_38 : decode cX7_readsCondition 38 = .ok (.iconst 0, 1) := dk_3 (dk_at dksX7_readsCondition_1 14 rfl rfl)
theorem dX7_readsCondition_39 : decode cX7_readsCondition 39 = .ok (.ireturn, 1) := dk_172 (dk_at dksX7_readsCondition_1 15 rfl rfl)
theorem dX7_readsCondition_40 : decode cX7_readsCondition 40 = .ok (.aload_n 0, 1) := dk_42 (dk_at dksX7_readsCondition_1 16 rfl rfl)
theorem dX7_readsCondition_41 : decode cX7_readsCondition 41 = .ok (.invokevirtual 139, 3) := dk_182 0 139 (dk_at dksX7_readsCondition_1 17 rfl rfl)
theorem dX7_readsCondition_44 : decode cX7_readsCondition 44 = .ok (.bipush 33, 2) := dk_16 33 (dk_at dksX7_readsCondition_1 20 rfl rfl)
theorem dX7_readsCondition_46 : decode cX7_readsCondition 46 = .ok (.if_icmp .eq 12, 3) := dk_159 0 12 (dk_at dksX7_readsCondition_2 0 rfl rfl)
theorem dX7_readsCondition_49 : decode cX7_readsCondition 49 = .ok (.aload_n 0, 1) := dk_42 (dk_at dksX7_readsCondition_2 3 rfl rfl)
theorem dX7_readsCondition_50 : decode cX7_readsCondition 50 = .ok (.invokevirtual 139, 3) := dk_182 0 139 (dk_at dksX7_readsCondition_2 4 rfl rfl)
theorem dX7_readsCondition_53 : decode cX7_readsCondition 53 = .ok (.bipush 40, 2) := dk_16 40 (dk_at dksX7_readsCondition_2 7 rfl rfl)
theorem dX7_readsCondition_55 : decode cX7_readsCondition 55 = .ok (.if_icmp .ne 28, 3) := dk_160 0 28 (dk_at dksX7_readsCondition_2 9 rfl rfl)
theorem dX7_readsCondition_58 : decode cX7_readsCondition 58 = .ok (.aload_n 0, 1) := dk_42 (dk_at dksX7_readsCondition_2 12 rfl rfl)
theorem dX7_readsCondition_59 : decode cX7_readsCondition 59 = .ok (.aload_n 0, 1) := dk_42 (dk_at dksX7_readsCondition_2 13 rfl rfl)
theorem dX7_readsCondition_60 : decode cX7_readsCondition 60 = .ok (.invokevirtual 139, 3) := dk_182 0 139 (dk_at dksX7_readsCondition_2 14 rfl rfl)
theorem dX7_readsCondition_63 : decode cX7_readsCondition 63 = .ok (.bipush 33, 2) := dk_16 33 (dk_at dksX7_readsCondition_2 17 rfl rfl)
theorem dX7_readsCondition_65 : decode cX7_readsCondition 65 = .ok (.if_icmp .ne 8, 3) := dk_160 0 8 (dk_at dksX7_readsCondition_2 19 rfl rfl)
theorem dX7_readsCondition_68 : decode cX7_readsCondition 68 = .ok (.bipush 10, 2) := dk_16 10 (dk_at dksX7_readsCondition_2 22 rfl rfl)
theorem dX7_readsCondition_70 : decode cX7_readsCondition 70 = .ok (.goto 5, 3) := dk_167 0 5 (dk_at dksX7_readsCondition_3 0 rfl rfl)
theorem dX7_readsCondition_73 : decode cX7_readsCondition 73 = .ok (.bipush 13, 2) := dk_16 13 (dk_at dksX7_readsCondition_3 3 rfl rfl)
theorem dX7_readsCondition_75 : decode cX7_readsCondition 75 = .ok (.invokevirtual 172, 3) := dk_182 0 172 (dk_at dksX7_readsCondition_3 5 rfl rfl)
theorem dX7_readsCondition_78 : decode cX7_readsCondition 78 = .ok (.ifCond .ne (-38), 3) := dk_154 255 218 (dk_at dksX7_readsCondition_3 8 rfl rfl)
theorem dX7_readsCondition_81 : decode cX7_readsCondition 81 = .ok (.iconst 0, 1) := dk_3 (dk_at dksX7_readsCondition_3 11 rfl rfl)
theorem dX7_readsCondition_82 : decode cX7_readsCondition 82 = .ok (.ireturn, 1) := dk_172 (dk_at dksX7_readsCondition_3 12 rfl rfl)
theorem dX7_readsCondition_83 : decode cX7_readsCondition 83 = .ok (.aload_n 0, 1) := dk_42 (dk_at dksX7_readsCondition_3 13 rfl rfl)
theorem dX7_readsCondition_84 : decode cX7_readsCondition 84 = .ok (.invokevirtual 201, 3) := dk_182 0 201 (dk_at dksX7_readsCondition_3 14 rfl rfl)
theorem dX7_readsCondition_87 : decode cX7_readsCondition 87 = .ok (.ifCond .ne 5, 3) := dk_154 0 5 (dk_at dksX7_readsCondition_3 17 rfl rfl)
theorem dX7_readsCondition_90 : decode cX7_readsCondition 90 = .ok (.iconst 0, 1) := dk_3 (dk_at dksX7_readsCondition_3 20 rfl rfl)
theorem dX7_readsCondition_91 : decode cX7_readsCondition 91 = .ok (.ireturn, 1) := dk_172 (dk_at dksX7_readsCondition_3 21 rfl rfl)
theorem dX7_readsCondition_92 : decode cX7_readsCondition 92 = .ok (.aload_n 0, 1) := dk_42 (dk_at dksX7_readsCondition_3 22 rfl rfl)
theorem dX7_readsCondition_93 : decode cX7_readsCondition 93 = .ok (.invokevirtual 139, 3) := dk_182 0 139 (dk_at dksX7_readsCondition_4 0 rfl rfl)
theorem dX7_readsCondition_96 : decode cX7_readsCondition 96 = .ok (.bipush 41, 2) := dk_16 41 (dk_at dksX7_readsCondition_4 3 rfl rfl)
theorem dX7_readsCondition_98 : decode cX7_readsCondition 98 = .ok (.if_icmp .ne 54, 3) := dk_160 0 54 (dk_at dksX7_readsCondition_4 5 rfl rfl)
theorem dX7_readsCondition_101 : decode cX7_readsCondition 101 = .ok (.aload_n 0, 1) := dk_42 (dk_at dksX7_readsCondition_4 8 rfl rfl)
theorem dX7_readsCondition_102 : decode cX7_readsCondition 102 = .ok (.iconst 1, 1) := dk_4 (dk_at dksX7_readsCondition_4 9 rfl rfl)
theorem dX7_readsCondition_103 : decode cX7_readsCondition 103 = .ok (.invokevirtual 204, 3) := dk_182 0 204 (dk_at dksX7_readsCondition_4 10 rfl rfl)
theorem dX7_readsCondition_106 : decode cX7_readsCondition 106 = .ok (.aload_n 0, 1) := dk_42 (dk_at dksX7_readsCondition_4 13 rfl rfl)
theorem dX7_readsCondition_107 : decode cX7_readsCondition 107 = .ok (.aload_n 0, 1) := dk_42 (dk_at dksX7_readsCondition_4 14 rfl rfl)
theorem dX7_readsCondition_108 : decode cX7_readsCondition 108 = .ok (.getfield 163, 3) := dk_180 0 163 (dk_at dksX7_readsCondition_4 15 rfl rfl)
theorem dX7_readsCondition_111 : decode cX7_readsCondition 111 = .ok (.iconst 1, 1) := dk_4 (dk_at dksX7_readsCondition_4 18 rfl rfl)
theorem dX7_readsCondition_112 : decode cX7_readsCondition 112 = .ok (.isub, 1) := dk_100 (dk_at dksX7_readsCondition_4 19 rfl rfl)
theorem dX7_readsCondition_113 : decode cX7_readsCondition 113 = .ok (.putfield 163, 3) := dk_181 0 163 (dk_at dksX7_readsCondition_4 20 rfl rfl)
theorem dX7_readsCondition_116 : decode cX7_readsCondition 116 = .ok (.aload_n 0, 1) := dk_42 (dk_at dksX7_readsCondition_4 23 rfl rfl)
theorem dX7_readsCondition_117 : decode cX7_readsCondition 117 = .ok (.aload_n 0, 1) := dk_42 (dk_at dksX7_readsCondition_5 0 rfl rfl)
theorem dX7_readsCondition_118 : decode cX7_readsCondition 118 = .ok (.getfield 160, 3) := dk_180 0 160 (dk_at dksX7_readsCondition_5 1 rfl rfl)
theorem dX7_readsCondition_121 : decode cX7_readsCondition 121 = .ok (.iconst 1, 1) := dk_4 (dk_at dksX7_readsCondition_5 4 rfl rfl)
theorem dX7_readsCondition_122 : decode cX7_readsCondition 122 = .ok (.isub, 1) := dk_100 (dk_at dksX7_readsCondition_5 5 rfl rfl)
theorem dX7_readsCondition_123 : decode cX7_readsCondition 123 = .ok (.putfield 160, 3) := dk_181 0 160 (dk_at dksX7_readsCondition_5 6 rfl rfl)
theorem dX7_readsCondition_126 : decode cX7_readsCondition 126 = .ok (.aload_n 0, 1) := dk_42 (dk_at dksX7_readsCondition_5 9 rfl rfl)
theorem dX7_readsCondition_127 : decode cX7_readsCondition 127 = .ok (.aload_n 0, 1) := dk_42 (dk_at dksX7_readsCondition_5 10 rfl rfl)
theorem dX7_readsCondition_128 : decode cX7_readsCondition 128 = .ok (.getfield 133, 3) := dk_180 0 133 (dk_at dksX7_readsCondition_5 11 rfl rfl)
theorem dX7_readsCondition_131 : decode cX7_readsCondition 131 = .ok (.iconst 1, 1) := dk_4 (dk_at dksX7_readsCondition_5 14 rfl rfl)
theorem dX7_readsCondition_132 : decode cX7_readsCondition 132 = .ok (.iadd, 1) := dk_96 (dk_at dksX7_readsCondition_5 15 rfl rfl)
theorem dX7_readsCondition_133 : decode cX7_readsCondition 133 = .ok (.putfield 133, 3) := dk_181 0 133 (dk_at dksX7_readsCondition_5 16 rfl rfl)
theorem dX7_readsCondition_136 : decode cX7_readsCondition 136 = .ok (.aload_n 0, 1) := dk_42 (dk_at dksX7_readsCondition_5 19 rfl rfl)
theorem dX7_readsCondition_137 : decode cX7_readsCondition 137 = .ok (.getfield 163, 3) := dk_180 0 163 (dk_at dksX7_readsCondition_5 20 rfl rfl)
theorem dX7_readsCondition_140 : decode cX7_readsCondition 140 = .ok (.ifCond .ne 5, 3) := dk_154 0 5 (dk_at dksX7_readsCondition_6 0 rfl rfl)
theorem dX7_readsCondition_143 : decode cX7_readsCondition 143 = .ok (.iconst 1, 1) := dk_4 (dk_at dksX7_readsCondition_6 3 rfl rfl)
theorem dX7_readsCondition_144 : decode cX7_readsCondition 144 = .ok (.ireturn, 1) := dk_172 (dk_at dksX7_readsCondition_6 4 rfl rfl)
theorem dX7_readsCondition_145 : decode cX7_readsCondition 145 = .ok (.aload_n 0, 1) := dk_42 (dk_at dksX7_readsCondition_6 5 rfl rfl)
theorem dX7_readsCondition_146 : decode cX7_readsCondition 146 = .ok (.invokevirtual 198, 3) := dk_182 0 198 (dk_at dksX7_readsCondition_6 6 rfl rfl)
theorem dX7_readsCondition_149 : decode cX7_readsCondition 149 = .ok (.goto (-57), 3) := dk_167 255 199 (dk_at dksX7_readsCondition_6 9 rfl rfl)
theorem dX7_readsCondition_152 : decode cX7_readsCondition 152 = .ok (.aload_n 0, 1) := dk_42 (dk_at dksX7_readsCondition_6 12 rfl rfl)
theorem dX7_readsCondition_153 : decode cX7_readsCondition 153 = .ok (.invokevirtual 139, 3) := dk_182 0 139 (dk_at dksX7_readsCondition_6 13 rfl rfl)
theorem dX7_readsCondition_156 : decode cX7_readsCondition 156 = .ok (.bipush 38, 2) := dk_16 38 (dk_at dksX7_readsCondition_6 16 rfl rfl)
theorem dX7_readsCondition_158 : decode cX7_readsCondition 158 = .ok (.if_icmp .eq 22, 3) := dk_159 0 22 (dk_at dksX7_readsCondition_6 18 rfl rfl)
theorem dX7_readsCondition_161 : decode cX7_readsCondition 161 = .ok (.aload_n 0, 1) := dk_42 (dk_at dksX7_readsCondition_6 21 rfl rfl)
theorem dX7_readsCondition_162 : decode cX7_readsCondition 162 = .ok (.invokevirtual 139, 3) := dk_182 0 139 (dk_at dksX7_readsCondition_7 0 rfl rfl)
theorem dX7_readsCondition_165 : decode cX7_readsCondition 165 = .ok (.bipush 124, 2) := dk_16 124 (dk_at dksX7_readsCondition_7 3 rfl rfl)
theorem dX7_readsCondition_167 : decode cX7_readsCondition 167 = .ok (.if_icmp .eq 13, 3) := dk_159 0 13 (dk_at dksX7_readsCondition_7 5 rfl rfl)
theorem dX7_readsCondition_170 : decode cX7_readsCondition 170 = .ok (.aload_n 0, 1) := dk_42 (dk_at dksX7_readsCondition_7 8 rfl rfl)
theorem dX7_readsCondition_171 : decode cX7_readsCondition 171 = .ok (.iconst 1, 1) := dk_4 (dk_at dksX7_readsCondition_7 9 rfl rfl)
theorem dX7_readsCondition_172 : decode cX7_readsCondition 172 = .ok (.aload_n 0, 1) := dk_42 (dk_at dksX7_readsCondition_7 10 rfl rfl)
theorem dX7_readsCondition_173 : decode cX7_readsCondition 173 = .ok (.getfield 133, 3) := dk_180 0 133 (dk_at dksX7_readsCondition_7 11 rfl rfl)
theorem dX7_readsCondition_176 : decode cX7_readsCondition 176 = .ok (.invokevirtual 146, 3) := dk_182 0 146 (dk_at dksX7_readsCondition_7 14 rfl rfl)
theorem dX7_readsCondition_179 : decode cX7_readsCondition 179 = .ok (.ireturn, 1) := dk_172 (dk_at dksX7_readsCondition_7 17 rfl rfl)
theorem dX7_readsCondition_180 : decode cX7_readsCondition 180 = .ok (.aload_n 0, 1) := dk_42 (dk_at dksX7_readsCondition_7 18 rfl rfl)
theorem dX7_readsCondition_181 : decode cX7_readsCondition 181 = .ok (.aload_n 0, 1) := dk_42 (dk_at dksX7_readsCondition_7 19 rfl rfl)
theorem dX7_readsCondition_182 : decode cX7_readsCondition 182 = .ok (.invokevirtual 139, 3) := dk_182 0 139 (dk_at dksX7_readsCondition_7 20 rfl rfl)
theorem dX7_readsCondition_185 : decode cX7_readsCondition 185 = .ok (.bipush 124, 2) := dk_16 124 (dk_at dksX7_readsCondition_8 0 rfl rfl)
theorem dX7_readsCondition_187 : decode cX7_readsCondition 187 = .ok (.if_icmp .ne 7, 3) := dk_160 0 7 (dk_at dksX7_readsCondition_8 2 rfl rfl)
theorem dX7_readsCondition_190 : decode cX7_readsCondition 190 = .ok (.iconst 1, 1) := dk_4 (dk_at dksX7_readsCondition_8 5 rfl rfl)
theorem dX7_readsCondition_191 : decode cX7_readsCondition 191 = .ok (.goto 4, 3) := dk_167 0 4 (dk_at dksX7_readsCondition_8 6 rfl rfl)
theorem dX7_readsCondition_194 : decode cX7_readsCondition 194 = .ok (.iconst 0, 1) := dk_3 (dk_at dksX7_readsCondition_8 9 rfl rfl)
theorem dX7_readsCondition_195 : decode cX7_readsCondition 195 = .ok (.invokevirtual 204, 3) := dk_182 0 204 (dk_at dksX7_readsCondition_8 10 rfl rfl)
theorem dX7_readsCondition_198 : decode cX7_readsCondition 198 = .ok (.aload_n 0, 1) := dk_42 (dk_at dksX7_readsCondition_8 13 rfl rfl)
theorem dX7_readsCondition_199 : decode cX7_readsCondition 199 = .ok (.aload_n 0, 1) := dk_42 (dk_at dksX7_readsCondition_8 14 rfl rfl)
theorem dX7_readsCondition_200 : decode cX7_readsCondition 200 = .ok (.invokevirtual 139, 3) := dk_182 0 139 (dk_at dksX7_readsCondition_8 15 rfl rfl)
theorem dX7_readsCondition_203 : decode cX7_readsCondition 203 = .ok (.bipush 38, 2) := dk_16 38 (dk_at dksX7_readsCondition_8 18 rfl rfl)
theorem dX7_readsCondition_205 : decode cX7_readsCondition 205 = .ok (.if_icmp .ne 8, 3) := dk_160 0 8 (dk_at dksX7_readsCondition_8 20 rfl rfl)
theorem dX7_readsCondition_208 : decode cX7_readsCondition 208 = .ok (.bipush 11, 2) := dk_16 11 (dk_at dksX7_readsCondition_9 0 rfl rfl)
theorem dX7_readsCondition_210 : decode cX7_readsCondition 210 = .ok (.goto 5, 3) := dk_167 0 5 (dk_at dksX7_readsCondition_9 2 rfl rfl)
theorem dX7_readsCondition_213 : decode cX7_readsCondition 213 = .ok (.bipush 12, 2) := dk_16 12 (dk_at dksX7_readsCondition_9 5 rfl rfl)
theorem dX7_readsCondition_215 : decode cX7_readsCondition 215 = .ok (.invokevirtual 207, 3) := dk_182 0 207 (dk_at dksX7_readsCondition_9 7 rfl rfl)
theorem dX7_readsCondition_218 : decode cX7_readsCondition 218 = .ok (.goto (-178), 3) := dk_167 255 78 (dk_at dksX7_readsCondition_9 10 rfl rfl)
abbrev cX7_readsCompared : ByteArray := prog_21_method_38_code
def yX7_readsCompared : MethodName := ⟨RX7, "readsCompared", "()Z"⟩
def dkwX7_readsCompared_4 : List UInt8 := [182, 0, 198, 4, 172]
abbrev dktX7_readsCompared_4 : List UInt8 := dkwX7_readsCompared_4 ++ []
def dkwX7_readsCompared_3 : List UInt8 := [180, 0, 133, 4, 96, 181, 0, 133, 42, 182, 0, 195, 154, 0, 5, 3, 172, 42, 27, 3, 182, 0, 169, 42]
abbrev dktX7_readsCompared_3 : List UInt8 := dkwX7_readsCompared_3 ++ dktX7_readsCompared_4
def dkwX7_readsCompared_2 : List UInt8 := [167, 0, 4, 2, 60, 27, 2, 160, 0, 13, 42, 4, 42, 180, 0, 133, 182, 0, 146, 172, 42, 42]
abbrev dktX7_readsCompared_2 : List UInt8 := dkwX7_readsCompared_2 ++ dktX7_readsCompared_3
def dkwX7_readsCompared_1 : List UInt8 := [182, 0, 139, 16, 62, 160, 0, 8, 16, 8, 167, 0, 18, 42, 182, 0, 139, 16, 61, 160, 0, 8, 16, 9]
abbrev dktX7_readsCompared_1 : List UInt8 := dkwX7_readsCompared_1 ++ dktX7_readsCompared_2
def dkwX7_readsCompared_0 : List UInt8 := [42, 182, 0, 195, 154, 0, 5, 3, 172, 42, 182, 0, 139, 16, 60, 160, 0, 8, 16, 7, 167, 0, 32, 42]
abbrev dktX7_readsCompared_0 : List UInt8 := dkwX7_readsCompared_0 ++ dktX7_readsCompared_1
theorem dksX7_readsCompared_0 : cX7_readsCompared.data.toList.drop 0 = dktX7_readsCompared_0 := by decide +kernel
theorem dksX7_readsCompared_1 : cX7_readsCompared.data.toList.drop 24 = dktX7_readsCompared_1 := dk_seg dksX7_readsCompared_0 24 rfl rfl
theorem dksX7_readsCompared_2 : cX7_readsCompared.data.toList.drop 48 = dktX7_readsCompared_2 := dk_seg dksX7_readsCompared_1 24 rfl rfl
theorem dksX7_readsCompared_3 : cX7_readsCompared.data.toList.drop 70 = dktX7_readsCompared_3 := dk_seg dksX7_readsCompared_2 22 rfl rfl
theorem dksX7_readsCompared_4 : cX7_readsCompared.data.toList.drop 94 = dktX7_readsCompared_4 := dk_seg dksX7_readsCompared_3 24 rfl rfl
theorem dX7_readsCompared_0 : decode cX7_readsCompared 0 = .ok (.aload_n 0, 1) := dk_42 (dk_at dksX7_readsCompared_0 0 rfl rfl)
theorem dX7_readsCompared_1 : decode cX7_readsCompared 1 = .ok (.invokevirtual 195, 3) := dk_182 0 195 (dk_at dksX7_readsCompared_0 1 rfl rfl)
theorem dX7_readsCompared_4 : decode cX7_readsCompared 4 = .ok (.ifCond .ne 5, 3) := dk_154 0 5 (dk_at dksX7_readsCompared_0 4 rfl rfl)
theorem dX7_readsCompared_7 : decode cX7_readsCompared 7 = .ok (.iconst 0, 1) := dk_3 (dk_at dksX7_readsCompared_0 7 rfl rfl)
theorem dX7_readsCompared_8 : decode cX7_readsCompared 8 = .ok (.ireturn, 1) := dk_172 (dk_at dksX7_readsCompared_0 8 rfl rfl)
theorem dX7_readsCompared_9 : decode cX7_readsCompared 9 = .ok (.aload_n 0, 1) := dk_42 (dk_at dksX7_readsCompared_0 9 rfl rfl)
theorem dX7_readsCompared_10 : decode cX7_readsCompared 10 = .ok (.invokevirtual 139, 3) := dk_182 0 139 (dk_at dksX7_readsCompared_0 10 rfl rfl)
theorem dX7_readsCompared_13 : decode cX7_readsCompared 13 = .ok (.bipush 60, 2) := dk_16 60 (dk_at dksX7_readsCompared_0 13 rfl rfl)
theorem dX7_readsCompared_15 : decode cX7_readsCompared 15 = .ok (.if_icmp .ne 8, 3) := dk_160 0 8 (dk_at dksX7_readsCompared_0 15 rfl rfl)
theorem dX7_readsCompared_18 : decode cX7_readsCompared 18 = .ok (.bipush 7, 2) := dk_16 7 (dk_at dksX7_readsCompared_0 18 rfl rfl)
theorem dX7_readsCompared_20 : decode cX7_readsCompared 20 = .ok (.goto 32, 3) := dk_167 0 32 (dk_at dksX7_readsCompared_0 20 rfl rfl)
theorem dX7_readsCompared_23 : decode cX7_readsCompared 23 = .ok (.aload_n 0, 1) := dk_42 (dk_at dksX7_readsCompared_0 23 rfl rfl)
theorem dX7_readsCompared_24 : decode cX7_readsCompared 24 = .ok (.invokevirtual 139, 3) := dk_182 0 139 (dk_at dksX7_readsCompared_1 0 rfl rfl)
theorem dX7_readsCompared_27 : decode cX7_readsCompared 27 = .ok (.bipush 62, 2) := dk_16 62 (dk_at dksX7_readsCompared_1 3 rfl rfl)
theorem dX7_readsCompared_29 : decode cX7_readsCompared 29 = .ok (.if_icmp .ne 8, 3) := dk_160 0 8 (dk_at dksX7_readsCompared_1 5 rfl rfl)
theorem dX7_readsCompared_32 : decode cX7_readsCompared 32 = .ok (.bipush 8, 2) := dk_16 8 (dk_at dksX7_readsCompared_1 8 rfl rfl)
theorem dX7_readsCompared_34 : decode cX7_readsCompared 34 = .ok (.goto 18, 3) := dk_167 0 18 (dk_at dksX7_readsCompared_1 10 rfl rfl)
theorem dX7_readsCompared_37 : decode cX7_readsCompared 37 = .ok (.aload_n 0, 1) := dk_42 (dk_at dksX7_readsCompared_1 13 rfl rfl)
theorem dX7_readsCompared_38 : decode cX7_readsCompared 38 = .ok (.invokevirtual 139, 3) := dk_182 0 139 (dk_at dksX7_readsCompared_1 14 rfl rfl)
theorem dX7_readsCompared_41 : decode cX7_readsCompared 41 = .ok (.bipush 61, 2) := dk_16 61 (dk_at dksX7_readsCompared_1 17 rfl rfl)
theorem dX7_readsCompared_43 : decode cX7_readsCompared 43 = .ok (.if_icmp .ne 8, 3) := dk_160 0 8 (dk_at dksX7_readsCompared_1 19 rfl rfl)
theorem dX7_readsCompared_46 : decode cX7_readsCompared 46 = .ok (.bipush 9, 2) := dk_16 9 (dk_at dksX7_readsCompared_1 22 rfl rfl)
theorem dX7_readsCompared_48 : decode cX7_readsCompared 48 = .ok (.goto 4, 3) := dk_167 0 4 (dk_at dksX7_readsCompared_2 0 rfl rfl)
theorem dX7_readsCompared_51 : decode cX7_readsCompared 51 = .ok (.iconst (-1), 1) := dk_2 (dk_at dksX7_readsCompared_2 3 rfl rfl)
theorem dX7_readsCompared_52 : decode cX7_readsCompared 52 = .ok (.istore_n 1, 1) := dk_60 (dk_at dksX7_readsCompared_2 4 rfl rfl)
theorem dX7_readsCompared_53 : decode cX7_readsCompared 53 = .ok (.iload_n 1, 1) := dk_27 (dk_at dksX7_readsCompared_2 5 rfl rfl)
theorem dX7_readsCompared_54 : decode cX7_readsCompared 54 = .ok (.iconst (-1), 1) := dk_2 (dk_at dksX7_readsCompared_2 6 rfl rfl)
theorem dX7_readsCompared_55 : decode cX7_readsCompared 55 = .ok (.if_icmp .ne 13, 3) := dk_160 0 13 (dk_at dksX7_readsCompared_2 7 rfl rfl)
theorem dX7_readsCompared_58 : decode cX7_readsCompared 58 = .ok (.aload_n 0, 1) := dk_42 (dk_at dksX7_readsCompared_2 10 rfl rfl)
theorem dX7_readsCompared_59 : decode cX7_readsCompared 59 = .ok (.iconst 1, 1) := dk_4 (dk_at dksX7_readsCompared_2 11 rfl rfl)
theorem dX7_readsCompared_60 : decode cX7_readsCompared 60 = .ok (.aload_n 0, 1) := dk_42 (dk_at dksX7_readsCompared_2 12 rfl rfl)
theorem dX7_readsCompared_61 : decode cX7_readsCompared 61 = .ok (.getfield 133, 3) := dk_180 0 133 (dk_at dksX7_readsCompared_2 13 rfl rfl)
theorem dX7_readsCompared_64 : decode cX7_readsCompared 64 = .ok (.invokevirtual 146, 3) := dk_182 0 146 (dk_at dksX7_readsCompared_2 16 rfl rfl)
theorem dX7_readsCompared_67 : decode cX7_readsCompared 67 = .ok (.ireturn, 1) := dk_172 (dk_at dksX7_readsCompared_2 19 rfl rfl)
theorem dX7_readsCompared_68 : decode cX7_readsCompared 68 = .ok (.aload_n 0, 1) := dk_42 (dk_at dksX7_readsCompared_2 20 rfl rfl)
theorem dX7_readsCompared_69 : decode cX7_readsCompared 69 = .ok (.aload_n 0, 1) := dk_42 (dk_at dksX7_readsCompared_2 21 rfl rfl)
theorem dX7_readsCompared_70 : decode cX7_readsCompared 70 = .ok (.getfield 133, 3) := dk_180 0 133 (dk_at dksX7_readsCompared_3 0 rfl rfl)
theorem dX7_readsCompared_73 : decode cX7_readsCompared 73 = .ok (.iconst 1, 1) := dk_4 (dk_at dksX7_readsCompared_3 3 rfl rfl)
theorem dX7_readsCompared_74 : decode cX7_readsCompared 74 = .ok (.iadd, 1) := dk_96 (dk_at dksX7_readsCompared_3 4 rfl rfl)
theorem dX7_readsCompared_75 : decode cX7_readsCompared 75 = .ok (.putfield 133, 3) := dk_181 0 133 (dk_at dksX7_readsCompared_3 5 rfl rfl)
theorem dX7_readsCompared_78 : decode cX7_readsCompared 78 = .ok (.aload_n 0, 1) := dk_42 (dk_at dksX7_readsCompared_3 8 rfl rfl)
theorem dX7_readsCompared_79 : decode cX7_readsCompared 79 = .ok (.invokevirtual 195, 3) := dk_182 0 195 (dk_at dksX7_readsCompared_3 9 rfl rfl)
theorem dX7_readsCompared_82 : decode cX7_readsCompared 82 = .ok (.ifCond .ne 5, 3) := dk_154 0 5 (dk_at dksX7_readsCompared_3 12 rfl rfl)
theorem dX7_readsCompared_85 : decode cX7_readsCompared 85 = .ok (.iconst 0, 1) := dk_3 (dk_at dksX7_readsCompared_3 15 rfl rfl)
theorem dX7_readsCompared_86 : decode cX7_readsCompared 86 = .ok (.ireturn, 1) := dk_172 (dk_at dksX7_readsCompared_3 16 rfl rfl)
theorem dX7_readsCompared_87 : decode cX7_readsCompared 87 = .ok (.aload_n 0, 1) := dk_42 (dk_at dksX7_readsCompared_3 17 rfl rfl)
theorem dX7_readsCompared_88 : decode cX7_readsCompared 88 = .ok (.iload_n 1, 1) := dk_27 (dk_at dksX7_readsCompared_3 18 rfl rfl)
theorem dX7_readsCompared_89 : decode cX7_readsCompared 89 = .ok (.iconst 0, 1) := dk_3 (dk_at dksX7_readsCompared_3 19 rfl rfl)
theorem dX7_readsCompared_90 : decode cX7_readsCompared 90 = .ok (.invokevirtual 169, 3) := dk_182 0 169 (dk_at dksX7_readsCompared_3 20 rfl rfl)
theorem dX7_readsCompared_93 : decode cX7_readsCompared 93 = .ok (.aload_n 0, 1) := dk_42 (dk_at dksX7_readsCompared_3 23 rfl rfl)
theorem dX7_readsCompared_94 : decode cX7_readsCompared 94 = .ok (.invokevirtual 198, 3) := dk_182 0 198 (dk_at dksX7_readsCompared_4 0 rfl rfl)
theorem dX7_readsCompared_97 : decode cX7_readsCompared 97 = .ok (.iconst 1, 1) := dk_4 (dk_at dksX7_readsCompared_4 3 rfl rfl)
theorem dX7_readsCompared_98 : decode cX7_readsCompared 98 = .ok (.ireturn, 1) := dk_172 (dk_at dksX7_readsCompared_4 4 rfl rfl)
abbrev cX7_endsPiece : ByteArray := prog_21_method_35_code
def yX7_endsPiece : MethodName := ⟨RX7, "endsPiece", "()V"⟩
def dkwX7_endsPiece_1 : List UInt8 := [181, 0, 163, 42, 42, 180, 0, 160, 4, 100, 181, 0, 160, 167, 255, 220, 177]
abbrev dktX7_endsPiece_1 : List UInt8 := dkwX7_endsPiece_1 ++ []
def dkwX7_endsPiece_0 : List UInt8 := [42, 182, 0, 166, 16, 10, 160, 0, 33, 42, 16, 10, 3, 182, 0, 169, 42, 42, 180, 0, 163, 4, 100]
abbrev dktX7_endsPiece_0 : List UInt8 := dkwX7_endsPiece_0 ++ dktX7_endsPiece_1
theorem dksX7_endsPiece_0 : cX7_endsPiece.data.toList.drop 0 = dktX7_endsPiece_0 := by decide +kernel
theorem dksX7_endsPiece_1 : cX7_endsPiece.data.toList.drop 23 = dktX7_endsPiece_1 := dk_seg dksX7_endsPiece_0 23 rfl rfl
theorem dX7_endsPiece_0 : decode cX7_endsPiece 0 = .ok (.aload_n 0, 1) := dk_42 (dk_at dksX7_endsPiece_0 0 rfl rfl)
theorem dX7_endsPiece_1 : decode cX7_endsPiece 1 = .ok (.invokevirtual 166, 3) := dk_182 0 166 (dk_at dksX7_endsPiece_0 1 rfl rfl)
theorem dX7_endsPiece_4 : decode cX7_endsPiece 4 = .ok (.bipush 10, 2) := dk_16 10 (dk_at dksX7_endsPiece_0 4 rfl rfl)
theorem dX7_endsPiece_6 : decode cX7_endsPiece 6 = .ok (.if_icmp .ne 33, 3) := dk_160 0 33 (dk_at dksX7_endsPiece_0 6 rfl rfl)
theorem dX7_endsPiece_9 : decode cX7_endsPiece 9 = .ok (.aload_n 0, 1) := dk_42 (dk_at dksX7_endsPiece_0 9 rfl rfl)
theorem dX7_endsPiece_10 : decode cX7_endsPiece 10 = .ok (.bipush 10, 2) := dk_16 10 (dk_at dksX7_endsPiece_0 10 rfl rfl)
theorem dX7_endsPiece_12 : decode cX7_endsPiece 12 = .ok (.iconst 0, 1) := dk_3 (dk_at dksX7_endsPiece_0 12 rfl rfl)
theorem dX7_endsPiece_13 : decode cX7_endsPiece 13 = .ok (.invokevirtual 169, 3) := dk_182 0 169 (dk_at dksX7_endsPiece_0 13 rfl rfl)
theorem dX7_endsPiece_16 : decode cX7_endsPiece 16 = .ok (.aload_n 0, 1) := dk_42 (dk_at dksX7_endsPiece_0 16 rfl rfl)
theorem dX7_endsPiece_17 : decode cX7_endsPiece 17 = .ok (.aload_n 0, 1) := dk_42 (dk_at dksX7_endsPiece_0 17 rfl rfl)
theorem dX7_endsPiece_18 : decode cX7_endsPiece 18 = .ok (.getfield 163, 3) := dk_180 0 163 (dk_at dksX7_endsPiece_0 18 rfl rfl)
theorem dX7_endsPiece_21 : decode cX7_endsPiece 21 = .ok (.iconst 1, 1) := dk_4 (dk_at dksX7_endsPiece_0 21 rfl rfl)
theorem dX7_endsPiece_22 : decode cX7_endsPiece 22 = .ok (.isub, 1) := dk_100 (dk_at dksX7_endsPiece_0 22 rfl rfl)
theorem dX7_endsPiece_23 : decode cX7_endsPiece 23 = .ok (.putfield 163, 3) := dk_181 0 163 (dk_at dksX7_endsPiece_1 0 rfl rfl)
theorem dX7_endsPiece_26 : decode cX7_endsPiece 26 = .ok (.aload_n 0, 1) := dk_42 (dk_at dksX7_endsPiece_1 3 rfl rfl)
theorem dX7_endsPiece_27 : decode cX7_endsPiece 27 = .ok (.aload_n 0, 1) := dk_42 (dk_at dksX7_endsPiece_1 4 rfl rfl)
theorem dX7_endsPiece_28 : decode cX7_endsPiece 28 = .ok (.getfield 160, 3) := dk_180 0 160 (dk_at dksX7_endsPiece_1 5 rfl rfl)
theorem dX7_endsPiece_31 : decode cX7_endsPiece 31 = .ok (.iconst 1, 1) := dk_4 (dk_at dksX7_endsPiece_1 8 rfl rfl)
theorem dX7_endsPiece_32 : decode cX7_endsPiece 32 = .ok (.isub, 1) := dk_100 (dk_at dksX7_endsPiece_1 9 rfl rfl)
theorem dX7_endsPiece_33 : decode cX7_endsPiece 33 = .ok (.putfield 160, 3) := dk_181 0 160 (dk_at dksX7_endsPiece_1 10 rfl rfl)
theorem dX7_endsPiece_36 : decode cX7_endsPiece 36 = .ok (.goto (-36), 3) := dk_167 255 220 (dk_at dksX7_endsPiece_1 13 rfl rfl)
theorem dX7_endsPiece_39 : decode cX7_endsPiece 39 = .ok (.return_, 1) := dk_177 (dk_at dksX7_endsPiece_1 16 rfl rfl)
abbrev cX7_lands : ByteArray := prog_21_method_36_code
def yX7_lands : MethodName := ⟨RX7, "lands", "(Z)V"⟩
def dkwX7_lands_3 : List UInt8 := [181, 0, 163, 167, 255, 186, 177]
abbrev dktX7_lands_3 : List UInt8 := dkwX7_lands_3 ++ []
def dkwX7_lands_2 : List UInt8 := [180, 0, 23, 28, 46, 18, 159, 108, 104, 42, 180, 0, 156, 96, 79, 42, 42, 180, 0, 163, 4, 100]
abbrev dktX7_lands_2 : List UInt8 := dkwX7_lands_2 ++ dktX7_lands_3
def dkwX7_lands_1 : List UInt8 := [180, 0, 26, 42, 180, 0, 163, 4, 100, 46, 18, 159, 112, 61, 42, 180, 0, 23, 28, 18, 159, 42]
abbrev dktX7_lands_1 : List UInt8 := dkwX7_lands_1 ++ dktX7_lands_2
def dkwX7_lands_0 : List UInt8 := [42, 182, 0, 166, 16, 11, 159, 0, 16, 27, 153, 0, 63, 42, 182, 0, 166, 16, 12, 160, 0, 54, 42]
abbrev dktX7_lands_0 : List UInt8 := dkwX7_lands_0 ++ dktX7_lands_1
theorem dksX7_lands_0 : cX7_lands.data.toList.drop 0 = dktX7_lands_0 := by decide +kernel
theorem dksX7_lands_1 : cX7_lands.data.toList.drop 23 = dktX7_lands_1 := dk_seg dksX7_lands_0 23 rfl rfl
theorem dksX7_lands_2 : cX7_lands.data.toList.drop 45 = dktX7_lands_2 := dk_seg dksX7_lands_1 22 rfl rfl
theorem dksX7_lands_3 : cX7_lands.data.toList.drop 67 = dktX7_lands_3 := dk_seg dksX7_lands_2 22 rfl rfl
theorem dX7_lands_0 : decode cX7_lands 0 = .ok (.aload_n 0, 1) := dk_42 (dk_at dksX7_lands_0 0 rfl rfl)
theorem dX7_lands_1 : decode cX7_lands 1 = .ok (.invokevirtual 166, 3) := dk_182 0 166 (dk_at dksX7_lands_0 1 rfl rfl)
theorem dX7_lands_4 : decode cX7_lands 4 = .ok (.bipush 11, 2) := dk_16 11 (dk_at dksX7_lands_0 4 rfl rfl)
theorem dX7_lands_6 : decode cX7_lands 6 = .ok (.if_icmp .eq 16, 3) := dk_159 0 16 (dk_at dksX7_lands_0 6 rfl rfl)
theorem dX7_lands_9 : decode cX7_lands 9 = .ok (.iload_n 1, 1) := dk_27 (dk_at dksX7_lands_0 9 rfl rfl)
theorem dX7_lands_10 : decode cX7_lands 10 = .ok (.ifCond .eq 63, 3) := dk_153 0 63 (dk_at dksX7_lands_0 10 rfl rfl)
theorem dX7_lands_13 : decode cX7_lands 13 = .ok (.aload_n 0, 1) := dk_42 (dk_at dksX7_lands_0 13 rfl rfl)
theorem dX7_lands_14 : decode cX7_lands 14 = .ok (.invokevirtual 166, 3) := dk_182 0 166 (dk_at dksX7_lands_0 14 rfl rfl)
theorem dX7_lands_17 : decode cX7_lands 17 = .ok (.bipush 12, 2) := dk_16 12 (dk_at dksX7_lands_0 17 rfl rfl)
theorem dX7_lands_19 : decode cX7_lands 19 = .ok (.if_icmp .ne 54, 3) := dk_160 0 54 (dk_at dksX7_lands_0 19 rfl rfl)
theorem dX7_lands_22 : decode cX7_lands 22 = .ok (.aload_n 0, 1) := dk_42 (dk_at dksX7_lands_0 22 rfl rfl)
theorem dX7_lands_23 : decode cX7_lands 23 = .ok (.getfield 26, 3) := dk_180 0 26 (dk_at dksX7_lands_1 0 rfl rfl)
theorem dX7_lands_26 : decode cX7_lands 26 = .ok (.aload_n 0, 1) := dk_42 (dk_at dksX7_lands_1 3 rfl rfl)
theorem dX7_lands_27 : decode cX7_lands 27 = .ok (.getfield 163, 3) := dk_180 0 163 (dk_at dksX7_lands_1 4 rfl rfl)
theorem dX7_lands_30 : decode cX7_lands 30 = .ok (.iconst 1, 1) := dk_4 (dk_at dksX7_lands_1 7 rfl rfl)
theorem dX7_lands_31 : decode cX7_lands 31 = .ok (.isub, 1) := dk_100 (dk_at dksX7_lands_1 8 rfl rfl)
theorem dX7_lands_32 : decode cX7_lands 32 = .ok (.iaload, 1) := dk_46 (dk_at dksX7_lands_1 9 rfl rfl)
theorem dX7_lands_33 : decode cX7_lands 33 = .ok (.ldc 159, 2) := dk_18 159 (dk_at dksX7_lands_1 10 rfl rfl)
theorem dX7_lands_35 : decode cX7_lands 35 = .ok (.irem, 1) := dk_112 (dk_at dksX7_lands_1 12 rfl rfl)
theorem dX7_lands_36 : decode cX7_lands 36 = .ok (.istore_n 2, 1) := dk_61 (dk_at dksX7_lands_1 13 rfl rfl)
theorem dX7_lands_37 : decode cX7_lands 37 = .ok (.aload_n 0, 1) := dk_42 (dk_at dksX7_lands_1 14 rfl rfl)
theorem dX7_lands_38 : decode cX7_lands 38 = .ok (.getfield 23, 3) := dk_180 0 23 (dk_at dksX7_lands_1 15 rfl rfl)
theorem dX7_lands_41 : decode cX7_lands 41 = .ok (.iload_n 2, 1) := dk_28 (dk_at dksX7_lands_1 18 rfl rfl)
theorem dX7_lands_42 : decode cX7_lands 42 = .ok (.ldc 159, 2) := dk_18 159 (dk_at dksX7_lands_1 19 rfl rfl)
theorem dX7_lands_44 : decode cX7_lands 44 = .ok (.aload_n 0, 1) := dk_42 (dk_at dksX7_lands_1 21 rfl rfl)
theorem dX7_lands_45 : decode cX7_lands 45 = .ok (.getfield 23, 3) := dk_180 0 23 (dk_at dksX7_lands_2 0 rfl rfl)
theorem dX7_lands_48 : decode cX7_lands 48 = .ok (.iload_n 2, 1) := dk_28 (dk_at dksX7_lands_2 3 rfl rfl)
theorem dX7_lands_49 : decode cX7_lands 49 = .ok (.iaload, 1) := dk_46 (dk_at dksX7_lands_2 4 rfl rfl)
theorem dX7_lands_50 : decode cX7_lands 50 = .ok (.ldc 159, 2) := dk_18 159 (dk_at dksX7_lands_2 5 rfl rfl)
theorem dX7_lands_52 : decode cX7_lands 52 = .ok (.idiv, 1) := dk_108 (dk_at dksX7_lands_2 7 rfl rfl)
theorem dX7_lands_53 : decode cX7_lands 53 = .ok (.imul, 1) := dk_104 (dk_at dksX7_lands_2 8 rfl rfl)
theorem dX7_lands_54 : decode cX7_lands 54 = .ok (.aload_n 0, 1) := dk_42 (dk_at dksX7_lands_2 9 rfl rfl)
theorem dX7_lands_55 : decode cX7_lands 55 = .ok (.getfield 156, 3) := dk_180 0 156 (dk_at dksX7_lands_2 10 rfl rfl)
theorem dX7_lands_58 : decode cX7_lands 58 = .ok (.iadd, 1) := dk_96 (dk_at dksX7_lands_2 13 rfl rfl)
theorem dX7_lands_59 : decode cX7_lands 59 = .ok (.iastore, 1) := dk_79 (dk_at dksX7_lands_2 14 rfl rfl)
theorem dX7_lands_60 : decode cX7_lands 60 = .ok (.aload_n 0, 1) := dk_42 (dk_at dksX7_lands_2 15 rfl rfl)
theorem dX7_lands_61 : decode cX7_lands 61 = .ok (.aload_n 0, 1) := dk_42 (dk_at dksX7_lands_2 16 rfl rfl)
theorem dX7_lands_62 : decode cX7_lands 62 = .ok (.getfield 163, 3) := dk_180 0 163 (dk_at dksX7_lands_2 17 rfl rfl)
theorem dX7_lands_65 : decode cX7_lands 65 = .ok (.iconst 1, 1) := dk_4 (dk_at dksX7_lands_2 20 rfl rfl)
theorem dX7_lands_66 : decode cX7_lands 66 = .ok (.isub, 1) := dk_100 (dk_at dksX7_lands_2 21 rfl rfl)
theorem dX7_lands_67 : decode cX7_lands 67 = .ok (.putfield 163, 3) := dk_181 0 163 (dk_at dksX7_lands_3 0 rfl rfl)
theorem dX7_lands_70 : decode cX7_lands 70 = .ok (.goto (-70), 3) := dk_167 255 186 (dk_at dksX7_lands_3 3 rfl rfl)
theorem dX7_lands_73 : decode cX7_lands 73 = .ok (.return_, 1) := dk_177 (dk_at dksX7_lands_3 6 rfl rfl)
abbrev cX7_jumps : ByteArray := prog_21_method_37_code
def yX7_jumps : MethodName := ⟨RX7, "jumps", "(I)V"⟩
def dkwX7_jumps_1 : List UInt8 := [96, 181, 0, 163, 42, 27, 3, 182, 0, 169, 42, 42, 180, 0, 133, 4, 96, 181, 0, 133, 177]
abbrev dktX7_jumps_1 : List UInt8 := dkwX7_jumps_1 ++ []
def dkwX7_jumps_0 : List UInt8 := [42, 180, 0, 26, 42, 180, 0, 163, 18, 159, 27, 104, 42, 180, 0, 156, 96, 79, 42, 42, 180, 0, 163, 4]
abbrev dktX7_jumps_0 : List UInt8 := dkwX7_jumps_0 ++ dktX7_jumps_1
theorem dksX7_jumps_0 : cX7_jumps.data.toList.drop 0 = dktX7_jumps_0 := by decide +kernel
theorem dksX7_jumps_1 : cX7_jumps.data.toList.drop 24 = dktX7_jumps_1 := dk_seg dksX7_jumps_0 24 rfl rfl
theorem dX7_jumps_0 : decode cX7_jumps 0 = .ok (.aload_n 0, 1) := dk_42 (dk_at dksX7_jumps_0 0 rfl rfl)
theorem dX7_jumps_1 : decode cX7_jumps 1 = .ok (.getfield 26, 3) := dk_180 0 26 (dk_at dksX7_jumps_0 1 rfl rfl)
theorem dX7_jumps_4 : decode cX7_jumps 4 = .ok (.aload_n 0, 1) := dk_42 (dk_at dksX7_jumps_0 4 rfl rfl)
theorem dX7_jumps_5 : decode cX7_jumps 5 = .ok (.getfield 163, 3) := dk_180 0 163 (dk_at dksX7_jumps_0 5 rfl rfl)
theorem dX7_jumps_8 : decode cX7_jumps 8 = .ok (.ldc 159, 2) := dk_18 159 (dk_at dksX7_jumps_0 8 rfl rfl)
theorem dX7_jumps_10 : decode cX7_jumps 10 = .ok (.iload_n 1, 1) := dk_27 (dk_at dksX7_jumps_0 10 rfl rfl)
theorem dX7_jumps_11 : decode cX7_jumps 11 = .ok (.imul, 1) := dk_104 (dk_at dksX7_jumps_0 11 rfl rfl)
theorem dX7_jumps_12 : decode cX7_jumps 12 = .ok (.aload_n 0, 1) := dk_42 (dk_at dksX7_jumps_0 12 rfl rfl)
theorem dX7_jumps_13 : decode cX7_jumps 13 = .ok (.getfield 156, 3) := dk_180 0 156 (dk_at dksX7_jumps_0 13 rfl rfl)
theorem dX7_jumps_16 : decode cX7_jumps 16 = .ok (.iadd, 1) := dk_96 (dk_at dksX7_jumps_0 16 rfl rfl)
theorem dX7_jumps_17 : decode cX7_jumps 17 = .ok (.iastore, 1) := dk_79 (dk_at dksX7_jumps_0 17 rfl rfl)
theorem dX7_jumps_18 : decode cX7_jumps 18 = .ok (.aload_n 0, 1) := dk_42 (dk_at dksX7_jumps_0 18 rfl rfl)
theorem dX7_jumps_19 : decode cX7_jumps 19 = .ok (.aload_n 0, 1) := dk_42 (dk_at dksX7_jumps_0 19 rfl rfl)
theorem dX7_jumps_20 : decode cX7_jumps 20 = .ok (.getfield 163, 3) := dk_180 0 163 (dk_at dksX7_jumps_0 20 rfl rfl)
theorem dX7_jumps_23 : decode cX7_jumps 23 = .ok (.iconst 1, 1) := dk_4 (dk_at dksX7_jumps_0 23 rfl rfl)
theorem dX7_jumps_24 : decode cX7_jumps 24 = .ok (.iadd, 1) := dk_96 (dk_at dksX7_jumps_1 0 rfl rfl)
theorem dX7_jumps_25 : decode cX7_jumps 25 = .ok (.putfield 163, 3) := dk_181 0 163 (dk_at dksX7_jumps_1 1 rfl rfl)
theorem dX7_jumps_28 : decode cX7_jumps 28 = .ok (.aload_n 0, 1) := dk_42 (dk_at dksX7_jumps_1 4 rfl rfl)
theorem dX7_jumps_29 : decode cX7_jumps 29 = .ok (.iload_n 1, 1) := dk_27 (dk_at dksX7_jumps_1 5 rfl rfl)
theorem dX7_jumps_30 : decode cX7_jumps 30 = .ok (.iconst 0, 1) := dk_3 (dk_at dksX7_jumps_1 6 rfl rfl)
theorem dX7_jumps_31 : decode cX7_jumps 31 = .ok (.invokevirtual 169, 3) := dk_182 0 169 (dk_at dksX7_jumps_1 7 rfl rfl)
theorem dX7_jumps_34 : decode cX7_jumps 34 = .ok (.aload_n 0, 1) := dk_42 (dk_at dksX7_jumps_1 10 rfl rfl)
theorem dX7_jumps_35 : decode cX7_jumps 35 = .ok (.aload_n 0, 1) := dk_42 (dk_at dksX7_jumps_1 11 rfl rfl)
theorem dX7_jumps_36 : decode cX7_jumps 36 = .ok (.getfield 133, 3) := dk_180 0 133 (dk_at dksX7_jumps_1 12 rfl rfl)
theorem dX7_jumps_39 : decode cX7_jumps 39 = .ok (.iconst 1, 1) := dk_4 (dk_at dksX7_jumps_1 15 rfl rfl)
theorem dX7_jumps_40 : decode cX7_jumps 40 = .ok (.iadd, 1) := dk_96 (dk_at dksX7_jumps_1 16 rfl rfl)
theorem dX7_jumps_41 : decode cX7_jumps 41 = .ok (.putfield 133, 3) := dk_181 0 133 (dk_at dksX7_jumps_1 17 rfl rfl)
theorem dX7_jumps_44 : decode cX7_jumps 44 = .ok (.return_, 1) := dk_177 (dk_at dksX7_jumps_1 20 rfl rfl)
abbrev cX7_takes : ByteArray := prog_21_method_24_code
def yX7_takes : MethodName := ⟨RX7, "takes", "(I)Z"⟩
def dkwX7_takes_1 : List UInt8 := [96, 181, 0, 133, 4, 172]
abbrev dktX7_takes_1 : List UInt8 := dkwX7_takes_1 ++ []
def dkwX7_takes_0 : List UInt8 := [42, 182, 0, 139, 27, 159, 0, 13, 42, 4, 42, 180, 0, 133, 182, 0, 146, 172, 42, 42, 180, 0, 133, 4]
abbrev dktX7_takes_0 : List UInt8 := dkwX7_takes_0 ++ dktX7_takes_1
theorem dksX7_takes_0 : cX7_takes.data.toList.drop 0 = dktX7_takes_0 := by decide +kernel
theorem dksX7_takes_1 : cX7_takes.data.toList.drop 24 = dktX7_takes_1 := dk_seg dksX7_takes_0 24 rfl rfl
theorem dX7_takes_0 : decode cX7_takes 0 = .ok (.aload_n 0, 1) := dk_42 (dk_at dksX7_takes_0 0 rfl rfl)
theorem dX7_takes_1 : decode cX7_takes 1 = .ok (.invokevirtual 139, 3) := dk_182 0 139 (dk_at dksX7_takes_0 1 rfl rfl)
theorem dX7_takes_4 : decode cX7_takes 4 = .ok (.iload_n 1, 1) := dk_27 (dk_at dksX7_takes_0 4 rfl rfl)
theorem dX7_takes_5 : decode cX7_takes 5 = .ok (.if_icmp .eq 13, 3) := dk_159 0 13 (dk_at dksX7_takes_0 5 rfl rfl)
theorem dX7_takes_8 : decode cX7_takes 8 = .ok (.aload_n 0, 1) := dk_42 (dk_at dksX7_takes_0 8 rfl rfl)
theorem dX7_takes_9 : decode cX7_takes 9 = .ok (.iconst 1, 1) := dk_4 (dk_at dksX7_takes_0 9 rfl rfl)
theorem dX7_takes_10 : decode cX7_takes 10 = .ok (.aload_n 0, 1) := dk_42 (dk_at dksX7_takes_0 10 rfl rfl)
theorem dX7_takes_11 : decode cX7_takes 11 = .ok (.getfield 133, 3) := dk_180 0 133 (dk_at dksX7_takes_0 11 rfl rfl)
theorem dX7_takes_14 : decode cX7_takes 14 = .ok (.invokevirtual 146, 3) := dk_182 0 146 (dk_at dksX7_takes_0 14 rfl rfl)
theorem dX7_takes_17 : decode cX7_takes 17 = .ok (.ireturn, 1) := dk_172 (dk_at dksX7_takes_0 17 rfl rfl)
theorem dX7_takes_18 : decode cX7_takes 18 = .ok (.aload_n 0, 1) := dk_42 (dk_at dksX7_takes_0 18 rfl rfl)
theorem dX7_takes_19 : decode cX7_takes 19 = .ok (.aload_n 0, 1) := dk_42 (dk_at dksX7_takes_0 19 rfl rfl)
theorem dX7_takes_20 : decode cX7_takes 20 = .ok (.getfield 133, 3) := dk_180 0 133 (dk_at dksX7_takes_0 20 rfl rfl)
theorem dX7_takes_23 : decode cX7_takes 23 = .ok (.iconst 1, 1) := dk_4 (dk_at dksX7_takes_0 23 rfl rfl)
theorem dX7_takes_24 : decode cX7_takes 24 = .ok (.iadd, 1) := dk_96 (dk_at dksX7_takes_1 0 rfl rfl)
theorem dX7_takes_25 : decode cX7_takes 25 = .ok (.putfield 133, 3) := dk_181 0 133 (dk_at dksX7_takes_1 1 rfl rfl)
theorem dX7_takes_28 : decode cX7_takes 28 = .ok (.iconst 1, 1) := dk_4 (dk_at dksX7_takes_1 4 rfl rfl)
theorem dX7_takes_29 : decode cX7_takes 29 = .ok (.ireturn, 1) := dk_172 (dk_at dksX7_takes_1 5 rfl rfl)
abbrev cX7_edge : ByteArray := prog_21_method_54_code
def yX7_edge : MethodName := ⟨RX7, "edge", "(II)I"⟩
def dkwX7_edge_7 : List UInt8 := [132, 5, 1, 167, 255, 209, 21, 4, 172]
abbrev dktX7_edge_7 : List UInt8 := dkwX7_edge_7 ++ []
def dkwX7_edge_6 : List UInt8 := [180, 0, 62, 21, 5, 46, 79, 21, 4, 42, 180, 0, 62, 21, 5, 46, 184, 0, 239, 96, 54, 4]
abbrev dktX7_edge_6 : List UInt8 := dkwX7_edge_6 ++ dktX7_edge_7
def dkwX7_edge_5 : List UInt8 := [21, 5, 16, 8, 162, 0, 46, 42, 180, 0, 7, 16, 112, 16, 8, 27, 104, 96, 21, 5, 96, 42]
abbrev dktX7_edge_5 : List UInt8 := dkwX7_edge_5 ++ dktX7_edge_6
def dkwX7_edge_4 : List UInt8 := [62, 167, 255, 210, 42, 3, 181, 0, 126, 29, 154, 0, 8, 42, 180, 0, 143, 172, 3, 54, 4, 3, 54, 5]
abbrev dktX7_edge_4 : List UInt8 := dkwX7_edge_4 ++ dktX7_edge_5
def dkwX7_edge_3 : List UInt8 := [162, 0, 28, 42, 16, 44, 182, 0, 222, 153, 0, 14, 42, 182, 1, 15, 153, 0, 7, 4, 167, 0, 4, 3]
abbrev dktX7_edge_3 : List UInt8 := dkwX7_edge_3 ++ dktX7_edge_4
def dkwX7_edge_2 : List UInt8 := [62, 29, 153, 0, 48, 42, 180, 0, 133, 42, 180, 0, 136, 161, 0, 12, 42, 180, 1, 12, 16, 8]
abbrev dktX7_edge_2 : List UInt8 := dkwX7_edge_2 ++ dktX7_edge_3
def dkwX7_edge_1 : List UInt8 := [164, 0, 5, 2, 172, 42, 3, 181, 0, 133, 42, 28, 181, 0, 136, 42, 3, 181, 1, 12, 42, 182, 1, 15]
abbrev dktX7_edge_1 : List UInt8 := dkwX7_edge_1 ++ dktX7_edge_2
def dkwX7_edge_0 : List UInt8 := [27, 184, 0, 97, 153, 0, 21, 28, 4, 16, 40, 184, 0, 111, 153, 0, 11, 28, 42, 180, 0, 126]
abbrev dktX7_edge_0 : List UInt8 := dkwX7_edge_0 ++ dktX7_edge_1
theorem dksX7_edge_0 : cX7_edge.data.toList.drop 0 = dktX7_edge_0 := by decide +kernel
theorem dksX7_edge_1 : cX7_edge.data.toList.drop 22 = dktX7_edge_1 := dk_seg dksX7_edge_0 22 rfl rfl
theorem dksX7_edge_2 : cX7_edge.data.toList.drop 46 = dktX7_edge_2 := dk_seg dksX7_edge_1 24 rfl rfl
theorem dksX7_edge_3 : cX7_edge.data.toList.drop 68 = dktX7_edge_3 := dk_seg dksX7_edge_2 22 rfl rfl
theorem dksX7_edge_4 : cX7_edge.data.toList.drop 92 = dktX7_edge_4 := dk_seg dksX7_edge_3 24 rfl rfl
theorem dksX7_edge_5 : cX7_edge.data.toList.drop 116 = dktX7_edge_5 := dk_seg dksX7_edge_4 24 rfl rfl
theorem dksX7_edge_6 : cX7_edge.data.toList.drop 138 = dktX7_edge_6 := dk_seg dksX7_edge_5 22 rfl rfl
theorem dksX7_edge_7 : cX7_edge.data.toList.drop 160 = dktX7_edge_7 := dk_seg dksX7_edge_6 22 rfl rfl
theorem dX7_edge_0 : decode cX7_edge 0 = .ok (.iload_n 1, 1) := dk_27 (dk_at dksX7_edge_0 0 rfl rfl)
theorem dX7_edge_1 : decode cX7_edge 1 = .ok (.invokestatic 97, 3) := dk_184 0 97 (dk_at dksX7_edge_0 1 rfl rfl)
theorem dX7_edge_4 : decode cX7_edge 4 = .ok (.ifCond .eq 21, 3) := dk_153 0 21 (dk_at dksX7_edge_0 4 rfl rfl)
theorem dX7_edge_7 : decode cX7_edge 7 = .ok (.iload_n 2, 1) := dk_28 (dk_at dksX7_edge_0 7 rfl rfl)
theorem dX7_edge_8 : decode cX7_edge 8 = .ok (.iconst 1, 1) := dk_4 (dk_at dksX7_edge_0 8 rfl rfl)
theorem dX7_edge_9 : decode cX7_edge 9 = .ok (.bipush 40, 2) := dk_16 40 (dk_at dksX7_edge_0 9 rfl rfl)
theorem dX7_edge_11 : decode cX7_edge 11 = .ok (.invokestatic 111, 3) := dk_184 0 111 (dk_at dksX7_edge_0 11 rfl rfl)
theorem dX7_edge_14 : decode cX7_edge 14 = .ok (.ifCond .eq 11, 3) := dk_153 0 11 (dk_at dksX7_edge_0 14 rfl rfl)
theorem dX7_edge_17 : decode cX7_edge 17 = .ok (.iload_n 2, 1) := dk_28 (dk_at dksX7_edge_0 17 rfl rfl)
theorem dX7_edge_18 : decode cX7_edge 18 = .ok (.aload_n 0, 1) := dk_42 (dk_at dksX7_edge_0 18 rfl rfl)
theorem dX7_edge_19 : decode cX7_edge 19 = .ok (.getfield 126, 3) := dk_180 0 126 (dk_at dksX7_edge_0 19 rfl rfl)
theorem dX7_edge_22 : decode cX7_edge 22 = .ok (.if_icmp .le 5, 3) := dk_164 0 5 (dk_at dksX7_edge_1 0 rfl rfl)
theorem dX7_edge_25 : decode cX7_edge 25 = .ok (.iconst (-1), 1) := dk_2 (dk_at dksX7_edge_1 3 rfl rfl)
theorem dX7_edge_26 : decode cX7_edge 26 = .ok (.ireturn, 1) := dk_172 (dk_at dksX7_edge_1 4 rfl rfl)
theorem dX7_edge_27 : decode cX7_edge 27 = .ok (.aload_n 0, 1) := dk_42 (dk_at dksX7_edge_1 5 rfl rfl)
theorem dX7_edge_28 : decode cX7_edge 28 = .ok (.iconst 0, 1) := dk_3 (dk_at dksX7_edge_1 6 rfl rfl)
theorem dX7_edge_29 : decode cX7_edge 29 = .ok (.putfield 133, 3) := dk_181 0 133 (dk_at dksX7_edge_1 7 rfl rfl)
theorem dX7_edge_32 : decode cX7_edge 32 = .ok (.aload_n 0, 1) := dk_42 (dk_at dksX7_edge_1 10 rfl rfl)
theorem dX7_edge_33 : decode cX7_edge 33 = .ok (.iload_n 2, 1) := dk_28 (dk_at dksX7_edge_1 11 rfl rfl)
theorem dX7_edge_34 : decode cX7_edge 34 = .ok (.putfield 136, 3) := dk_181 0 136 (dk_at dksX7_edge_1 12 rfl rfl)
theorem dX7_edge_37 : decode cX7_edge 37 = .ok (.aload_n 0, 1) := dk_42 (dk_at dksX7_edge_1 15 rfl rfl)
theorem dX7_edge_38 : decode cX7_edge 38 = .ok (.iconst 0, 1) := dk_3 (dk_at dksX7_edge_1 16 rfl rfl)
theorem dX7_edge_39 : decode cX7_edge 39 = .ok (.putfield 268, 3) := dk_181 1 12 (dk_at dksX7_edge_1 17 rfl rfl)
theorem dX7_edge_42 : decode cX7_edge 42 = .ok (.aload_n 0, 1) := dk_42 (dk_at dksX7_edge_1 20 rfl rfl)
theorem dX7_edge_43 : decode cX7_edge 43 = .ok (.invokevirtual 271, 3) := dk_182 1 15 (dk_at dksX7_edge_1 21 rfl rfl)
theorem dX7_edge_46 : decode cX7_edge 46 = .ok (.istore_n 3, 1) := dk_62 (dk_at dksX7_edge_2 0 rfl rfl)
theorem dX7_edge_47 : decode cX7_edge 47 = .ok (.iload_n 3, 1) := dk_29 (dk_at dksX7_edge_2 1 rfl rfl)
theorem dX7_edge_48 : decode cX7_edge 48 = .ok (.ifCond .eq 48, 3) := dk_153 0 48 (dk_at dksX7_edge_2 2 rfl rfl)
theorem dX7_edge_51 : decode cX7_edge 51 = .ok (.aload_n 0, 1) := dk_42 (dk_at dksX7_edge_2 5 rfl rfl)
theorem dX7_edge_52 : decode cX7_edge 52 = .ok (.getfield 133, 3) := dk_180 0 133 (dk_at dksX7_edge_2 6 rfl rfl)
theorem dX7_edge_55 : decode cX7_edge 55 = .ok (.aload_n 0, 1) := dk_42 (dk_at dksX7_edge_2 9 rfl rfl)
theorem dX7_edge_56 : decode cX7_edge 56 = .ok (.getfield 136, 3) := dk_180 0 136 (dk_at dksX7_edge_2 10 rfl rfl)
theorem dX7_edge_59 : decode cX7_edge 59 = .ok (.if_icmp .lt 12, 3) := dk_161 0 12 (dk_at dksX7_edge_2 13 rfl rfl)
theorem dX7_edge_62 : decode cX7_edge 62 = .ok (.aload_n 0, 1) := dk_42 (dk_at dksX7_edge_2 16 rfl rfl)
theorem dX7_edge_63 : decode cX7_edge 63 = .ok (.getfield 268, 3) := dk_180 1 12 (dk_at dksX7_edge_2 17 rfl rfl)
theorem dX7_edge_66 : decode cX7_edge 66 = .ok (.bipush 8, 2) := dk_16 8 (dk_at dksX7_edge_2 20 rfl rfl)
theorem dX7_edge_68 : decode cX7_edge 68 = .ok (.if_icmp .ge 28, 3) := dk_162 0 28 (dk_at dksX7_edge_3 0 rfl rfl)
theorem dX7_edge_71 : decode cX7_edge 71 = .ok (.aload_n 0, 1) := dk_42 (dk_at dksX7_edge_3 3 rfl rfl)
theorem dX7_edge_72 : decode cX7_edge 72 = .ok (.bipush 44, 2) := dk_16 44 (dk_at dksX7_edge_3 4 rfl rfl)
theorem dX7_edge_74 : decode cX7_edge 74 = .ok (.invokevirtual 222, 3) := dk_182 0 222 (dk_at dksX7_edge_3 6 rfl rfl)
theorem dX7_edge_77 : decode cX7_edge 77 = .ok (.ifCond .eq 14, 3) := dk_153 0 14 (dk_at dksX7_edge_3 9 rfl rfl)
theorem dX7_edge_80 : decode cX7_edge 80 = .ok (.aload_n 0, 1) := dk_42 (dk_at dksX7_edge_3 12 rfl rfl)
theorem dX7_edge_81 : decode cX7_edge 81 = .ok (.invokevirtual 271, 3) := dk_182 1 15 (dk_at dksX7_edge_3 13 rfl rfl)
theorem dX7_edge_84 : decode cX7_edge 84 = .ok (.ifCond .eq 7, 3) := dk_153 0 7 (dk_at dksX7_edge_3 16 rfl rfl)
theorem dX7_edge_87 : decode cX7_edge 87 = .ok (.iconst 1, 1) := dk_4 (dk_at dksX7_edge_3 19 rfl rfl)
theorem dX7_edge_88 : decode cX7_edge 88 = .ok (.goto 4, 3) := dk_167 0 4 (dk_at dksX7_edge_3 20 rfl rfl)
theorem dX7_edge_91 : decode cX7_edge 91 = .ok (.iconst 0, 1) := dk_3 (dk_at dksX7_edge_3 23 rfl rfl)
theorem dX7_edge_92 : decode cX7_edge 92 = .ok (.istore_n 3, 1) := dk_62 (dk_at dksX7_edge_4 0 rfl rfl)
theorem dX7_edge_93 : decode cX7_edge 93 = .ok (.goto (-46), 3) := dk_167 255 210 (dk_at dksX7_edge_4 1 rfl rfl)
theorem dX7_edge_96 : decode cX7_edge 96 = .ok (.aload_n 0, 1) := dk_42 (dk_at dksX7_edge_4 4 rfl rfl)
theorem dX7_edge_97 : decode cX7_edge 97 = .ok (.iconst 0, 1) := dk_3 (dk_at dksX7_edge_4 5 rfl rfl)
theorem dX7_edge_98 : decode cX7_edge 98 = .ok (.putfield 126, 3) := dk_181 0 126 (dk_at dksX7_edge_4 6 rfl rfl)
theorem dX7_edge_101 : decode cX7_edge 101 = .ok (.iload_n 3, 1) := dk_29 (dk_at dksX7_edge_4 9 rfl rfl)
theorem dX7_edge_102 : decode cX7_edge 102 = .ok (.ifCond .ne 8, 3) := dk_154 0 8 (dk_at dksX7_edge_4 10 rfl rfl)
theorem dX7_edge_105 : decode cX7_edge 105 = .ok (.aload_n 0, 1) := dk_42 (dk_at dksX7_edge_4 13 rfl rfl)
theorem dX7_edge_106 : decode cX7_edge 106 = .ok (.getfield 143, 3) := dk_180 0 143 (dk_at dksX7_edge_4 14 rfl rfl)
theorem dX7_edge_109 : decode cX7_edge 109 = .ok (.ireturn, 1) := dk_172 (dk_at dksX7_edge_4 17 rfl rfl)
theorem dX7_edge_110 : decode cX7_edge 110 = .ok (.iconst 0, 1) := dk_3 (dk_at dksX7_edge_4 18 rfl rfl)
theorem dX7_edge_111 : decode cX7_edge 111 = .ok (.istore 4, 2) := dk_54 4 (dk_at dksX7_edge_4 19 rfl rfl)
theorem dX7_edge_113 : decode cX7_edge 113 = .ok (.iconst 0, 1) := dk_3 (dk_at dksX7_edge_4 21 rfl rfl)
theorem dX7_edge_114 : decode cX7_edge 114 = .ok (.istore 5, 2) := dk_54 5 (dk_at dksX7_edge_4 22 rfl rfl)
theorem dX7_edge_116 : decode cX7_edge 116 = .ok (.iload 5, 2) := dk_21 5 (dk_at dksX7_edge_5 0 rfl rfl)
theorem dX7_edge_118 : decode cX7_edge 118 = .ok (.bipush 8, 2) := dk_16 8 (dk_at dksX7_edge_5 2 rfl rfl)
theorem dX7_edge_120 : decode cX7_edge 120 = .ok (.if_icmp .ge 46, 3) := dk_162 0 46 (dk_at dksX7_edge_5 4 rfl rfl)
theorem dX7_edge_123 : decode cX7_edge 123 = .ok (.aload_n 0, 1) := dk_42 (dk_at dksX7_edge_5 7 rfl rfl)
theorem dX7_edge_124 : decode cX7_edge 124 = .ok (.getfield 7, 3) := dk_180 0 7 (dk_at dksX7_edge_5 8 rfl rfl)
theorem dX7_edge_127 : decode cX7_edge 127 = .ok (.bipush 112, 2) := dk_16 112 (dk_at dksX7_edge_5 11 rfl rfl)
theorem dX7_edge_129 : decode cX7_edge 129 = .ok (.bipush 8, 2) := dk_16 8 (dk_at dksX7_edge_5 13 rfl rfl)
theorem dX7_edge_131 : decode cX7_edge 131 = .ok (.iload_n 1, 1) := dk_27 (dk_at dksX7_edge_5 15 rfl rfl)
theorem dX7_edge_132 : decode cX7_edge 132 = .ok (.imul, 1) := dk_104 (dk_at dksX7_edge_5 16 rfl rfl)
theorem dX7_edge_133 : decode cX7_edge 133 = .ok (.iadd, 1) := dk_96 (dk_at dksX7_edge_5 17 rfl rfl)
theorem dX7_edge_134 : decode cX7_edge 134 = .ok (.iload 5, 2) := dk_21 5 (dk_at dksX7_edge_5 18 rfl rfl)
theorem dX7_edge_136 : decode cX7_edge 136 = .ok (.iadd, 1) := dk_96 (dk_at dksX7_edge_5 20 rfl rfl)
theorem dX7_edge_137 : decode cX7_edge 137 = .ok (.aload_n 0, 1) := dk_42 (dk_at dksX7_edge_5 21 rfl rfl)
theorem dX7_edge_138 : decode cX7_edge 138 = .ok (.getfield 62, 3) := dk_180 0 62 (dk_at dksX7_edge_6 0 rfl rfl)
theorem dX7_edge_141 : decode cX7_edge 141 = .ok (.iload 5, 2) := dk_21 5 (dk_at dksX7_edge_6 3 rfl rfl)
theorem dX7_edge_143 : decode cX7_edge 143 = .ok (.iaload, 1) := dk_46 (dk_at dksX7_edge_6 5 rfl rfl)
theorem dX7_edge_144 : decode cX7_edge 144 = .ok (.iastore, 1) := dk_79 (dk_at dksX7_edge_6 6 rfl rfl)
theorem dX7_edge_145 : decode cX7_edge 145 = .ok (.iload 4, 2) := dk_21 4 (dk_at dksX7_edge_6 7 rfl rfl)
theorem dX7_edge_147 : decode cX7_edge 147 = .ok (.aload_n 0, 1) := dk_42 (dk_at dksX7_edge_6 9 rfl rfl)
theorem dX7_edge_148 : decode cX7_edge 148 = .ok (.getfield 62, 3) := dk_180 0 62 (dk_at dksX7_edge_6 10 rfl rfl)
theorem dX7_edge_151 : decode cX7_edge 151 = .ok (.iload 5, 2) := dk_21 5 (dk_at dksX7_edge_6 13 rfl rfl)
theorem dX7_edge_153 : decode cX7_edge 153 = .ok (.iaload, 1) := dk_46 (dk_at dksX7_edge_6 15 rfl rfl)
theorem dX7_edge_154 : decode cX7_edge 154 = .ok (.invokestatic 239, 3) := dk_184 0 239 (dk_at dksX7_edge_6 16 rfl rfl)
theorem dX7_edge_157 : decode cX7_edge 157 = .ok (.iadd, 1) := dk_96 (dk_at dksX7_edge_6 19 rfl rfl)
theorem dX7_edge_158 : decode cX7_edge 158 = .ok (.istore 4, 2) := dk_54 4 (dk_at dksX7_edge_6 20 rfl rfl)
theorem dX7_edge_160 : decode cX7_edge 160 = .ok (.iinc 5 1, 3) := dk_132 5 1 (dk_at dksX7_edge_7 0 rfl rfl)
theorem dX7_edge_163 : decode cX7_edge 163 = .ok (.goto (-47), 3) := dk_167 255 209 (dk_at dksX7_edge_7 3 rfl rfl)
theorem dX7_edge_166 : decode cX7_edge 166 = .ok (.iload 4, 2) := dk_21 4 (dk_at dksX7_edge_7 6 rfl rfl)
theorem dX7_edge_168 : decode cX7_edge 168 = .ok (.ireturn, 1) := dk_172 (dk_at dksX7_edge_7 8 rfl rfl)
abbrev cX7_readsHeight : ByteArray := prog_21_method_53_code
def yX7_readsHeight : MethodName := ⟨RX7, "readsHeight", "()Z"⟩
def dkwX7_readsHeight_9 : List UInt8 := [42, 42, 180, 1, 12, 21, 4, 96, 181, 1, 12, 4, 172]
abbrev dktX7_readsHeight_9 : List UInt8 := dkwX7_readsHeight_9 ++ []
def dkwX7_readsHeight_8 : List UInt8 := [21, 4, 162, 0, 22, 42, 180, 0, 62, 42, 180, 1, 12, 21, 5, 96, 29, 79, 132, 5, 1, 167, 255, 233]
abbrev dktX7_readsHeight_8 : List UInt8 := dkwX7_readsHeight_8 ++ dktX7_readsHeight_9
def dkwX7_readsHeight_7 : List UInt8 := [180, 1, 12, 21, 4, 96, 16, 8, 164, 0, 11, 42, 16, 6, 27, 182, 0, 146, 172, 3, 54, 5, 21, 5]
abbrev dktX7_readsHeight_7 : List UInt8 := dkwX7_readsHeight_7 ++ dktX7_readsHeight_8
def dkwX7_readsHeight_6 : List UInt8 := [182, 0, 146, 172, 42, 182, 0, 139, 16, 48, 100, 54, 4, 42, 42, 180, 0, 133, 4, 96, 181, 0, 133, 42]
abbrev dktX7_readsHeight_6 : List UInt8 := dkwX7_readsHeight_6 ++ dktX7_readsHeight_7
def dkwX7_readsHeight_5 : List UInt8 := [181, 0, 133, 42, 182, 0, 139, 16, 50, 16, 56, 184, 0, 111, 154, 0, 13, 42, 4, 42, 180, 0, 133]
abbrev dktX7_readsHeight_5 : List UInt8 := dkwX7_readsHeight_5 ++ dktX7_readsHeight_6
def dkwX7_readsHeight_4 : List UInt8 := [180, 0, 133, 4, 96, 181, 0, 133, 42, 182, 0, 139, 16, 42, 160, 0, 56, 42, 42, 180, 0, 133, 4, 96]
abbrev dktX7_readsHeight_4 : List UInt8 := dkwX7_readsHeight_4 ++ dktX7_readsHeight_5
def dkwX7_readsHeight_3 : List UInt8 := [16, 48, 42, 182, 0, 139, 100, 167, 0, 10, 42, 182, 0, 139, 16, 48, 100, 62, 4, 54, 4, 42, 42]
abbrev dktX7_readsHeight_3 : List UInt8 := dkwX7_readsHeight_3 ++ dktX7_readsHeight_4
def dkwX7_readsHeight_2 : List UInt8 := [16, 48, 16, 57, 184, 0, 111, 154, 0, 13, 42, 4, 42, 180, 0, 133, 182, 0, 146, 172, 28, 153, 0, 13]
abbrev dktX7_readsHeight_2 : List UInt8 := dkwX7_readsHeight_2 ++ dktX7_readsHeight_3
def dkwX7_readsHeight_1 : List UInt8 := [42, 42, 180, 0, 133, 4, 96, 181, 0, 133, 42, 182, 0, 139, 28, 153, 0, 8, 16, 49, 167, 0, 5]
abbrev dktX7_readsHeight_1 : List UInt8 := dkwX7_readsHeight_1 ++ dktX7_readsHeight_2
def dkwX7_readsHeight_0 : List UInt8 := [42, 180, 0, 133, 60, 42, 182, 0, 139, 16, 45, 160, 0, 7, 4, 167, 0, 4, 3, 61, 28, 153, 0, 13]
abbrev dktX7_readsHeight_0 : List UInt8 := dkwX7_readsHeight_0 ++ dktX7_readsHeight_1
theorem dksX7_readsHeight_0 : cX7_readsHeight.data.toList.drop 0 = dktX7_readsHeight_0 := by decide +kernel
theorem dksX7_readsHeight_1 : cX7_readsHeight.data.toList.drop 24 = dktX7_readsHeight_1 := dk_seg dksX7_readsHeight_0 24 rfl rfl
theorem dksX7_readsHeight_2 : cX7_readsHeight.data.toList.drop 47 = dktX7_readsHeight_2 := dk_seg dksX7_readsHeight_1 23 rfl rfl
theorem dksX7_readsHeight_3 : cX7_readsHeight.data.toList.drop 71 = dktX7_readsHeight_3 := dk_seg dksX7_readsHeight_2 24 rfl rfl
theorem dksX7_readsHeight_4 : cX7_readsHeight.data.toList.drop 94 = dktX7_readsHeight_4 := dk_seg dksX7_readsHeight_3 23 rfl rfl
theorem dksX7_readsHeight_5 : cX7_readsHeight.data.toList.drop 118 = dktX7_readsHeight_5 := dk_seg dksX7_readsHeight_4 24 rfl rfl
theorem dksX7_readsHeight_6 : cX7_readsHeight.data.toList.drop 141 = dktX7_readsHeight_6 := dk_seg dksX7_readsHeight_5 23 rfl rfl
theorem dksX7_readsHeight_7 : cX7_readsHeight.data.toList.drop 165 = dktX7_readsHeight_7 := dk_seg dksX7_readsHeight_6 24 rfl rfl
theorem dksX7_readsHeight_8 : cX7_readsHeight.data.toList.drop 189 = dktX7_readsHeight_8 := dk_seg dksX7_readsHeight_7 24 rfl rfl
theorem dksX7_readsHeight_9 : cX7_readsHeight.data.toList.drop 213 = dktX7_readsHeight_9 := dk_seg dksX7_readsHeight_8 24 rfl rfl
theorem dX7_readsHeight_0 : decode cX7_readsHeight 0 = .ok (.aload_n 0, 1) := dk_42 (dk_at dksX7_readsHeight_0 0 rfl rfl)
theorem dX7_readsHeight_1 : decode cX7_readsHeight 1 = .ok (.getfield 133, 3) := dk_180 0 133 (dk_at dksX7_readsHeight_0 1 rfl rfl)
theorem dX7_readsHeight_4 : decode cX7_readsHeight 4 = .ok (.istore_n 1, 1) := dk_60 (dk_at dksX7_readsHeight_0 4 rfl rfl)
theorem dX7_readsHeight_5 : decode cX7_readsHeight 5 = .ok (.aload_n 0, 1) := dk_42 (dk_at dksX7_readsHeight_0 5 rfl rfl)
theorem dX7_readsHeight_6 : decode cX7_readsHeight 6 = .ok (.invokevirtual 139, 3) := dk_182 0 139 (dk_at dksX7_readsHeight_0 6 rfl rfl)
theorem dX7_readsHeight_9 : decode cX7_readsHeight 9 = .ok (.bipush 45, 2) := dk_16 45 (dk_at dksX7_readsHeight_0 9 rfl rfl)
theorem dX7_readsHeight_11 : decode cX7_readsHeight 11 = .ok (.if_icmp .ne 7, 3) := dk_160 0 7 (dk_at dksX7_readsHeight_0 11 rfl rfl)
theorem dX7_readsHeight_14 : decode cX7_readsHeight 14 = .ok (.iconst 1, 1) := dk_4 (dk_at dksX7_readsHeight_0 14 rfl rfl)
theorem dX7_readsHeight_15 : decode cX7_readsHeight 15 = .ok (.goto 4, 3) := dk_167 0 4 (dk_at dksX7_readsHeight_0 15 rfl rfl)
theorem dX7_readsHeight_18 : decode cX7_readsHeight 18 = .ok (.iconst 0, 1) := dk_3 (dk_at dksX7_readsHeight_0 18 rfl rfl)
theorem dX7_readsHeight_19 : decode cX7_readsHeight 19 = .ok (.istore_n 2, 1) := dk_61 (dk_at dksX7_readsHeight_0 19 rfl rfl)
theorem dX7_readsHeight_20 : decode cX7_readsHeight 20 = .ok (.iload_n 2, 1) := dk_28 (dk_at dksX7_readsHeight_0 20 rfl rfl)
theorem dX7_readsHeight_21 : decode cX7_readsHeight 21 = .ok (.ifCond .eq 13, 3) := dk_153 0 13 (dk_at dksX7_readsHeight_0 21 rfl rfl)
theorem dX7_readsHeight_24 : decode cX7_readsHeight 24 = .ok (.aload_n 0, 1) := dk_42 (dk_at dksX7_readsHeight_1 0 rfl rfl)
theorem dX7_readsHeight_25 : decode cX7_readsHeight 25 = .ok (.aload_n 0, 1) := dk_42 (dk_at dksX7_readsHeight_1 1 rfl rfl)
theorem dX7_readsHeight_26 : decode cX7_readsHeight 26 = .ok (.getfield 133, 3) := dk_180 0 133 (dk_at dksX7_readsHeight_1 2 rfl rfl)
theorem dX7_readsHeight_29 : decode cX7_readsHeight 29 = .ok (.iconst 1, 1) := dk_4 (dk_at dksX7_readsHeight_1 5 rfl rfl)
theorem dX7_readsHeight_30 : decode cX7_readsHeight 30 = .ok (.iadd, 1) := dk_96 (dk_at dksX7_readsHeight_1 6 rfl rfl)
theorem dX7_readsHeight_31 : decode cX7_readsHeight 31 = .ok (.putfield 133, 3) := dk_181 0 133 (dk_at dksX7_readsHeight_1 7 rfl rfl)
theorem dX7_readsHeight_34 : decode cX7_readsHeight 34 = .ok (.aload_n 0, 1) := dk_42 (dk_at dksX7_readsHeight_1 10 rfl rfl)
theorem dX7_readsHeight_35 : decode cX7_readsHeight 35 = .ok (.invokevirtual 139, 3) := dk_182 0 139 (dk_at dksX7_readsHeight_1 11 rfl rfl)
theorem dX7_readsHeight_38 : decode cX7_readsHeight 38 = .ok (.iload_n 2, 1) := dk_28 (dk_at dksX7_readsHeight_1 14 rfl rfl)
theorem dX7_readsHeight_39 : decode cX7_readsHeight 39 = .ok (.ifCond .eq 8, 3) := dk_153 0 8 (dk_at dksX7_readsHeight_1 15 rfl rfl)
theorem dX7_readsHeight_42 : decode cX7_readsHeight 42 = .ok (.bipush 49, 2) := dk_16 49 (dk_at dksX7_readsHeight_1 18 rfl rfl)
theorem dX7_readsHeight_44 : decode cX7_readsHeight 44 = .ok (.goto 5, 3) := dk_167 0 5 (dk_at dksX7_readsHeight_1 20 rfl rfl)
theorem dX7_readsHeight_47 : decode cX7_readsHeight 47 = .ok (.bipush 48, 2) := dk_16 48 (dk_at dksX7_readsHeight_2 0 rfl rfl)
theorem dX7_readsHeight_49 : decode cX7_readsHeight 49 = .ok (.bipush 57, 2) := dk_16 57 (dk_at dksX7_readsHeight_2 2 rfl rfl)
theorem dX7_readsHeight_51 : decode cX7_readsHeight 51 = .ok (.invokestatic 111, 3) := dk_184 0 111 (dk_at dksX7_readsHeight_2 4 rfl rfl)
theorem dX7_readsHeight_54 : decode cX7_readsHeight 54 = .ok (.ifCond .ne 13, 3) := dk_154 0 13 (dk_at dksX7_readsHeight_2 7 rfl rfl)
theorem dX7_readsHeight_57 : decode cX7_readsHeight 57 = .ok (.aload_n 0, 1) := dk_42 (dk_at dksX7_readsHeight_2 10 rfl rfl)
theorem dX7_readsHeight_58 : decode cX7_readsHeight 58 = .ok (.iconst 1, 1) := dk_4 (dk_at dksX7_readsHeight_2 11 rfl rfl)
theorem dX7_readsHeight_59 : decode cX7_readsHeight 59 = .ok (.aload_n 0, 1) := dk_42 (dk_at dksX7_readsHeight_2 12 rfl rfl)
theorem dX7_readsHeight_60 : decode cX7_readsHeight 60 = .ok (.getfield 133, 3) := dk_180 0 133 (dk_at dksX7_readsHeight_2 13 rfl rfl)
theorem dX7_readsHeight_63 : decode cX7_readsHeight 63 = .ok (.invokevirtual 146, 3) := dk_182 0 146 (dk_at dksX7_readsHeight_2 16 rfl rfl)
theorem dX7_readsHeight_66 : decode cX7_readsHeight 66 = .ok (.ireturn, 1) := dk_172 (dk_at dksX7_readsHeight_2 19 rfl rfl)
theorem dX7_readsHeight_67 : decode cX7_readsHeight 67 = .ok (.iload_n 2, 1) := dk_28 (dk_at dksX7_readsHeight_2 20 rfl rfl)
theorem dX7_readsHeight_68 : decode cX7_readsHeight 68 = .ok (.ifCond .eq 13, 3) := dk_153 0 13 (dk_at dksX7_readsHeight_2 21 rfl rfl)
theorem dX7_readsHeight_71 : decode cX7_readsHeight 71 = .ok (.bipush 48, 2) := dk_16 48 (dk_at dksX7_readsHeight_3 0 rfl rfl)
theorem dX7_readsHeight_73 : decode cX7_readsHeight 73 = .ok (.aload_n 0, 1) := dk_42 (dk_at dksX7_readsHeight_3 2 rfl rfl)
theorem dX7_readsHeight_74 : decode cX7_readsHeight 74 = .ok (.invokevirtual 139, 3) := dk_182 0 139 (dk_at dksX7_readsHeight_3 3 rfl rfl)
theorem dX7_readsHeight_77 : decode cX7_readsHeight 77 = .ok (.isub, 1) := dk_100 (dk_at dksX7_readsHeight_3 6 rfl rfl)
theorem dX7_readsHeight_78 : decode cX7_readsHeight 78 = .ok (.goto 10, 3) := dk_167 0 10 (dk_at dksX7_readsHeight_3 7 rfl rfl)
theorem dX7_readsHeight_81 : decode cX7_readsHeight 81 = .ok (.aload_n 0, 1) := dk_42 (dk_at dksX7_readsHeight_3 10 rfl rfl)
theorem dX7_readsHeight_82 : decode cX7_readsHeight 82 = .ok (.invokevirtual 139, 3) := dk_182 0 139 (dk_at dksX7_readsHeight_3 11 rfl rfl)
theorem dX7_readsHeight_85 : decode cX7_readsHeight 85 = .ok (.bipush 48, 2) := dk_16 48 (dk_at dksX7_readsHeight_3 14 rfl rfl)
theorem dX7_readsHeight_87 : decode cX7_readsHeight 87 = .ok (.isub, 1) := dk_100 (dk_at dksX7_readsHeight_3 16 rfl rfl)
theorem dX7_readsHeight_88 : decode cX7_readsHeight 88 = .ok (.istore_n 3, 1) := dk_62 (dk_at dksX7_readsHeight_3 17 rfl rfl)
theorem dX7_readsHeight_89 : decode cX7_readsHeight 89 = .ok (.iconst 1, 1) := dk_4 (dk_at dksX7_readsHeight_3 18 rfl rfl)
theorem dX7_readsHeight_90 : decode cX7_readsHeight 90 = .ok (.istore 4, 2) := dk_54 4 (dk_at dksX7_readsHeight_3 19 rfl rfl)
theorem dX7_readsHeight_92 : decode cX7_readsHeight 92 = .ok (.aload_n 0, 1) := dk_42 (dk_at dksX7_readsHeight_3 21 rfl rfl)
theorem dX7_readsHeight_93 : decode cX7_readsHeight 93 = .ok (.aload_n 0, 1) := dk_42 (dk_at dksX7_readsHeight_3 22 rfl rfl)
theorem dX7_readsHeight_94 : decode cX7_readsHeight 94 = .ok (.getfield 133, 3) := dk_180 0 133 (dk_at dksX7_readsHeight_4 0 rfl rfl)
theorem dX7_readsHeight_97 : decode cX7_readsHeight 97 = .ok (.iconst 1, 1) := dk_4 (dk_at dksX7_readsHeight_4 3 rfl rfl)
theorem dX7_readsHeight_98 : decode cX7_readsHeight 98 = .ok (.iadd, 1) := dk_96 (dk_at dksX7_readsHeight_4 4 rfl rfl)
theorem dX7_readsHeight_99 : decode cX7_readsHeight 99 = .ok (.putfield 133, 3) := dk_181 0 133 (dk_at dksX7_readsHeight_4 5 rfl rfl)
theorem dX7_readsHeight_102 : decode cX7_readsHeight 102 = .ok (.aload_n 0, 1) := dk_42 (dk_at dksX7_readsHeight_4 8 rfl rfl)
theorem dX7_readsHeight_103 : decode cX7_readsHeight 103 = .ok (.invokevirtual 139, 3) := dk_182 0 139 (dk_at dksX7_readsHeight_4 9 rfl rfl)
theorem dX7_readsHeight_106 : decode cX7_readsHeight 106 = .ok (.bipush 42, 2) := dk_16 42 (dk_at dksX7_readsHeight_4 12 rfl rfl)
theorem dX7_readsHeight_108 : decode cX7_readsHeight 108 = .ok (.if_icmp .ne 56, 3) := dk_160 0 56 (dk_at dksX7_readsHeight_4 14 rfl rfl)
theorem dX7_readsHeight_111 : decode cX7_readsHeight 111 = .ok (.aload_n 0, 1) := dk_42 (dk_at dksX7_readsHeight_4 17 rfl rfl)
theorem dX7_readsHeight_112 : decode cX7_readsHeight 112 = .ok (.aload_n 0, 1) := dk_42 (dk_at dksX7_readsHeight_4 18 rfl rfl)
theorem dX7_readsHeight_113 : decode cX7_readsHeight 113 = .ok (.getfield 133, 3) := dk_180 0 133 (dk_at dksX7_readsHeight_4 19 rfl rfl)
theorem dX7_readsHeight_116 : decode cX7_readsHeight 116 = .ok (.iconst 1, 1) := dk_4 (dk_at dksX7_readsHeight_4 22 rfl rfl)
theorem dX7_readsHeight_117 : decode cX7_readsHeight 117 = .ok (.iadd, 1) := dk_96 (dk_at dksX7_readsHeight_4 23 rfl rfl)
theorem dX7_readsHeight_118 : decode cX7_readsHeight 118 = .ok (.putfield 133, 3) := dk_181 0 133 (dk_at dksX7_readsHeight_5 0 rfl rfl)
theorem dX7_readsHeight_121 : decode cX7_readsHeight 121 = .ok (.aload_n 0, 1) := dk_42 (dk_at dksX7_readsHeight_5 3 rfl rfl)
theorem dX7_readsHeight_122 : decode cX7_readsHeight 122 = .ok (.invokevirtual 139, 3) := dk_182 0 139 (dk_at dksX7_readsHeight_5 4 rfl rfl)
theorem dX7_readsHeight_125 : decode cX7_readsHeight 125 = .ok (.bipush 50, 2) := dk_16 50 (dk_at dksX7_readsHeight_5 7 rfl rfl)
theorem dX7_readsHeight_127 : decode cX7_readsHeight 127 = .ok (.bipush 56, 2) := dk_16 56 (dk_at dksX7_readsHeight_5 9 rfl rfl)
theorem dX7_readsHeight_129 : decode cX7_readsHeight 129 = .ok (.invokestatic 111, 3) := dk_184 0 111 (dk_at dksX7_readsHeight_5 11 rfl rfl)
theorem dX7_readsHeight_132 : decode cX7_readsHeight 132 = .ok (.ifCond .ne 13, 3) := dk_154 0 13 (dk_at dksX7_readsHeight_5 14 rfl rfl)
theorem dX7_readsHeight_135 : decode cX7_readsHeight 135 = .ok (.aload_n 0, 1) := dk_42 (dk_at dksX7_readsHeight_5 17 rfl rfl)
theorem dX7_readsHeight_136 : decode cX7_readsHeight 136 = .ok (.iconst 1, 1) := dk_4 (dk_at dksX7_readsHeight_5 18 rfl rfl)
theorem dX7_readsHeight_137 : decode cX7_readsHeight 137 = .ok (.aload_n 0, 1) := dk_42 (dk_at dksX7_readsHeight_5 19 rfl rfl)
theorem dX7_readsHeight_138 : decode cX7_readsHeight 138 = .ok (.getfield 133, 3) := dk_180 0 133 (dk_at dksX7_readsHeight_5 20 rfl rfl)
theorem dX7_readsHeight_141 : decode cX7_readsHeight 141 = .ok (.invokevirtual 146, 3) := dk_182 0 146 (dk_at dksX7_readsHeight_6 0 rfl rfl)
theorem dX7_readsHeight_144 : decode cX7_readsHeight 144 = .ok (.ireturn, 1) := dk_172 (dk_at dksX7_readsHeight_6 3 rfl rfl)
theorem dX7_readsHeight_145 : decode cX7_readsHeight 145 = .ok (.aload_n 0, 1) := dk_42 (dk_at dksX7_readsHeight_6 4 rfl rfl)
theorem dX7_readsHeight_146 : decode cX7_readsHeight 146 = .ok (.invokevirtual 139, 3) := dk_182 0 139 (dk_at dksX7_readsHeight_6 5 rfl rfl)
theorem dX7_readsHeight_149 : decode cX7_readsHeight 149 = .ok (.bipush 48, 2) := dk_16 48 (dk_at dksX7_readsHeight_6 8 rfl rfl)
theorem dX7_readsHeight_151 : decode cX7_readsHeight 151 = .ok (.isub, 1) := dk_100 (dk_at dksX7_readsHeight_6 10 rfl rfl)
theorem dX7_readsHeight_152 : decode cX7_readsHeight 152 = .ok (.istore 4, 2) := dk_54 4 (dk_at dksX7_readsHeight_6 11 rfl rfl)
theorem dX7_readsHeight_154 : decode cX7_readsHeight 154 = .ok (.aload_n 0, 1) := dk_42 (dk_at dksX7_readsHeight_6 13 rfl rfl)
theorem dX7_readsHeight_155 : decode cX7_readsHeight 155 = .ok (.aload_n 0, 1) := dk_42 (dk_at dksX7_readsHeight_6 14 rfl rfl)
theorem dX7_readsHeight_156 : decode cX7_readsHeight 156 = .ok (.getfield 133, 3) := dk_180 0 133 (dk_at dksX7_readsHeight_6 15 rfl rfl)
theorem dX7_readsHeight_159 : decode cX7_readsHeight 159 = .ok (.iconst 1, 1) := dk_4 (dk_at dksX7_readsHeight_6 18 rfl rfl)
theorem dX7_readsHeight_160 : decode cX7_readsHeight 160 = .ok (.iadd, 1) := dk_96 (dk_at dksX7_readsHeight_6 19 rfl rfl)
theorem dX7_readsHeight_161 : decode cX7_readsHeight 161 = .ok (.putfield 133, 3) := dk_181 0 133 (dk_at dksX7_readsHeight_6 20 rfl rfl)
theorem dX7_readsHeight_164 : decode cX7_readsHeight 164 = .ok (.aload_n 0, 1) := dk_42 (dk_at dksX7_readsHeight_6 23 rfl rfl)
theorem dX7_readsHeight_165 : decode cX7_readsHeight 165 = .ok (.getfield 268, 3) := dk_180 1 12 (dk_at dksX7_readsHeight_7 0 rfl rfl)
theorem dX7_readsHeight_168 : decode cX7_readsHeight 168 = .ok (.iload 4, 2) := dk_21 4 (dk_at dksX7_readsHeight_7 3 rfl rfl)
theorem dX7_readsHeight_170 : decode cX7_readsHeight 170 = .ok (.iadd, 1) := dk_96 (dk_at dksX7_readsHeight_7 5 rfl rfl)
theorem dX7_readsHeight_171 : decode cX7_readsHeight 171 = .ok (.bipush 8, 2) := dk_16 8 (dk_at dksX7_readsHeight_7 6 rfl rfl)
theorem dX7_readsHeight_173 : decode cX7_readsHeight 173 = .ok (.if_icmp .le 11, 3) := dk_164 0 11 (dk_at dksX7_readsHeight_7 8 rfl rfl)
theorem dX7_readsHeight_176 : decode cX7_readsHeight 176 = .ok (.aload_n 0, 1) := dk_42 (dk_at dksX7_readsHeight_7 11 rfl rfl)
theorem dX7_readsHeight_177 : decode cX7_readsHeight 177 = .ok (.bipush 6, 2) := dk_16 6 (dk_at dksX7_readsHeight_7 12 rfl rfl)
theorem dX7_readsHeight_179 : decode cX7_readsHeight 179 = .ok (.iload_n 1, 1) := dk_27 (dk_at dksX7_readsHeight_7 14 rfl rfl)
theorem dX7_readsHeight_180 : decode cX7_readsHeight 180 = .ok (.invokevirtual 146, 3) := dk_182 0 146 (dk_at dksX7_readsHeight_7 15 rfl rfl)
theorem dX7_readsHeight_183 : decode cX7_readsHeight 183 = .ok (.ireturn, 1) := dk_172 (dk_at dksX7_readsHeight_7 18 rfl rfl)
theorem dX7_readsHeight_184 : decode cX7_readsHeight 184 = .ok (.iconst 0, 1) := dk_3 (dk_at dksX7_readsHeight_7 19 rfl rfl)
theorem dX7_readsHeight_185 : decode cX7_readsHeight 185 = .ok (.istore 5, 2) := dk_54 5 (dk_at dksX7_readsHeight_7 20 rfl rfl)
theorem dX7_readsHeight_187 : decode cX7_readsHeight 187 = .ok (.iload 5, 2) := dk_21 5 (dk_at dksX7_readsHeight_7 22 rfl rfl)
theorem dX7_readsHeight_189 : decode cX7_readsHeight 189 = .ok (.iload 4, 2) := dk_21 4 (dk_at dksX7_readsHeight_8 0 rfl rfl)
theorem dX7_readsHeight_191 : decode cX7_readsHeight 191 = .ok (.if_icmp .ge 22, 3) := dk_162 0 22 (dk_at dksX7_readsHeight_8 2 rfl rfl)
theorem dX7_readsHeight_194 : decode cX7_readsHeight 194 = .ok (.aload_n 0, 1) := dk_42 (dk_at dksX7_readsHeight_8 5 rfl rfl)
theorem dX7_readsHeight_195 : decode cX7_readsHeight 195 = .ok (.getfield 62, 3) := dk_180 0 62 (dk_at dksX7_readsHeight_8 6 rfl rfl)
theorem dX7_readsHeight_198 : decode cX7_readsHeight 198 = .ok (.aload_n 0, 1) := dk_42 (dk_at dksX7_readsHeight_8 9 rfl rfl)
theorem dX7_readsHeight_199 : decode cX7_readsHeight 199 = .ok (.getfield 268, 3) := dk_180 1 12 (dk_at dksX7_readsHeight_8 10 rfl rfl)
theorem dX7_readsHeight_202 : decode cX7_readsHeight 202 = .ok (.iload 5, 2) := dk_21 5 (dk_at dksX7_readsHeight_8 13 rfl rfl)
theorem dX7_readsHeight_204 : decode cX7_readsHeight 204 = .ok (.iadd, 1) := dk_96 (dk_at dksX7_readsHeight_8 15 rfl rfl)
theorem dX7_readsHeight_205 : decode cX7_readsHeight 205 = .ok (.iload_n 3, 1) := dk_29 (dk_at dksX7_readsHeight_8 16 rfl rfl)
theorem dX7_readsHeight_206 : decode cX7_readsHeight 206 = .ok (.iastore, 1) := dk_79 (dk_at dksX7_readsHeight_8 17 rfl rfl)
theorem dX7_readsHeight_207 : decode cX7_readsHeight 207 = .ok (.iinc 5 1, 3) := dk_132 5 1 (dk_at dksX7_readsHeight_8 18 rfl rfl)
theorem dX7_readsHeight_210 : decode cX7_readsHeight 210 = .ok (.goto (-23), 3) := dk_167 255 233 (dk_at dksX7_readsHeight_8 21 rfl rfl)
theorem dX7_readsHeight_213 : decode cX7_readsHeight 213 = .ok (.aload_n 0, 1) := dk_42 (dk_at dksX7_readsHeight_9 0 rfl rfl)
theorem dX7_readsHeight_214 : decode cX7_readsHeight 214 = .ok (.aload_n 0, 1) := dk_42 (dk_at dksX7_readsHeight_9 1 rfl rfl)
theorem dX7_readsHeight_215 : decode cX7_readsHeight 215 = .ok (.getfield 268, 3) := dk_180 1 12 (dk_at dksX7_readsHeight_9 2 rfl rfl)
theorem dX7_readsHeight_218 : decode cX7_readsHeight 218 = .ok (.iload 4, 2) := dk_21 4 (dk_at dksX7_readsHeight_9 5 rfl rfl)
theorem dX7_readsHeight_220 : decode cX7_readsHeight 220 = .ok (.iadd, 1) := dk_96 (dk_at dksX7_readsHeight_9 7 rfl rfl)
theorem dX7_readsHeight_221 : decode cX7_readsHeight 221 = .ok (.putfield 268, 3) := dk_181 1 12 (dk_at dksX7_readsHeight_9 8 rfl rfl)
theorem dX7_readsHeight_224 : decode cX7_readsHeight 224 = .ok (.iconst 1, 1) := dk_4 (dk_at dksX7_readsHeight_9 11 rfl rfl)
theorem dX7_readsHeight_225 : decode cX7_readsHeight 225 = .ok (.ireturn, 1) := dk_172 (dk_at dksX7_readsHeight_9 12 rfl rfl)
abbrev cX7_size : ByteArray := prog_21_method_5_code
def yX7_size : MethodName := ⟨RX7, "size", "(I)I"⟩
def dkwX7_size_0 : List UInt8 := [26, 156, 0, 8, 26, 116, 167, 0, 4, 26, 172]
abbrev dktX7_size_0 : List UInt8 := dkwX7_size_0 ++ []
theorem dksX7_size_0 : cX7_size.data.toList.drop 0 = dktX7_size_0 := by decide +kernel
theorem dX7_size_0 : decode cX7_size 0 = .ok (.iload_n 0, 1) := dk_26 (dk_at dksX7_size_0 0 rfl rfl)
theorem dX7_size_1 : decode cX7_size 1 = .ok (.ifCond .ge 8, 3) := dk_156 0 8 (dk_at dksX7_size_0 1 rfl rfl)
theorem dX7_size_4 : decode cX7_size 4 = .ok (.iload_n 0, 1) := dk_26 (dk_at dksX7_size_0 4 rfl rfl)
theorem dX7_size_5 : decode cX7_size 5 = .ok (.ineg, 1) := dk_116 (dk_at dksX7_size_0 5 rfl rfl)
theorem dX7_size_6 : decode cX7_size 6 = .ok (.goto 4, 3) := dk_167 0 4 (dk_at dksX7_size_0 6 rfl rfl)
theorem dX7_size_9 : decode cX7_size 9 = .ok (.iload_n 0, 1) := dk_26 (dk_at dksX7_size_0 9 rfl rfl)
theorem dX7_size_10 : decode cX7_size 10 = .ok (.ireturn, 1) := dk_172 (dk_at dksX7_size_0 10 rfl rfl)
abbrev cX7_journey : ByteArray := prog_21_method_56_code
def yX7_journey : MethodName := ⟨RX7, "journey", "(II)I"⟩
def dkwX7_journey_7 : List UInt8 := [21, 4, 46, 79, 132, 4, 1, 167, 255, 220, 42, 180, 1, 12, 172]
abbrev dktX7_journey_7 : List UInt8 := dkwX7_journey_7 ++ []
def dkwX7_journey_6 : List UInt8 := [162, 0, 33, 42, 180, 0, 7, 17, 0, 208, 17, 0, 144, 27, 104, 96, 21, 4, 96, 42, 180, 0, 65]
abbrev dktX7_journey_6 : List UInt8 := dkwX7_journey_6 ++ dktX7_journey_7
def dkwX7_journey_5 : List UInt8 := [42, 180, 0, 7, 16, 96, 27, 96, 42, 180, 1, 12, 79, 3, 54, 4, 21, 4, 42, 180, 1, 12]
abbrev dktX7_journey_5 : List UInt8 := dkwX7_journey_5 ++ dktX7_journey_6
def dkwX7_journey_4 : List UInt8 := [42, 3, 181, 0, 126, 29, 154, 0, 8, 42, 180, 0, 143, 172, 42, 180, 0, 7, 16, 84, 27, 96, 3, 79]
abbrev dktX7_journey_4 : List UInt8 := dkwX7_journey_4 ++ dktX7_journey_5
def dkwX7_journey_3 : List UInt8 := [16, 44, 182, 0, 222, 153, 0, 14, 42, 182, 1, 21, 153, 0, 7, 4, 167, 0, 4, 3, 62, 167, 255, 219]
abbrev dktX7_journey_3 : List UInt8 := dkwX7_journey_3 ++ dktX7_journey_4
def dkwX7_journey_2 : List UInt8 := [181, 1, 18, 42, 182, 1, 21, 62, 29, 153, 0, 39, 42, 180, 0, 133, 42, 180, 0, 136, 162, 0, 28, 42]
abbrev dktX7_journey_2 : List UInt8 := dkwX7_journey_2 ++ dktX7_journey_3
def dkwX7_journey_1 : List UInt8 := [164, 0, 5, 2, 172, 42, 3, 181, 0, 133, 42, 28, 181, 0, 136, 42, 3, 181, 1, 12, 42, 3]
abbrev dktX7_journey_1 : List UInt8 := dkwX7_journey_1 ++ dktX7_journey_2
def dkwX7_journey_0 : List UInt8 := [42, 27, 182, 0, 105, 153, 0, 21, 28, 4, 16, 40, 184, 0, 111, 153, 0, 11, 28, 42, 180, 0, 126]
abbrev dktX7_journey_0 : List UInt8 := dkwX7_journey_0 ++ dktX7_journey_1
theorem dksX7_journey_0 : cX7_journey.data.toList.drop 0 = dktX7_journey_0 := by decide +kernel
theorem dksX7_journey_1 : cX7_journey.data.toList.drop 23 = dktX7_journey_1 := dk_seg dksX7_journey_0 23 rfl rfl
theorem dksX7_journey_2 : cX7_journey.data.toList.drop 45 = dktX7_journey_2 := dk_seg dksX7_journey_1 22 rfl rfl
theorem dksX7_journey_3 : cX7_journey.data.toList.drop 69 = dktX7_journey_3 := dk_seg dksX7_journey_2 24 rfl rfl
theorem dksX7_journey_4 : cX7_journey.data.toList.drop 93 = dktX7_journey_4 := dk_seg dksX7_journey_3 24 rfl rfl
theorem dksX7_journey_5 : cX7_journey.data.toList.drop 117 = dktX7_journey_5 := dk_seg dksX7_journey_4 24 rfl rfl
theorem dksX7_journey_6 : cX7_journey.data.toList.drop 139 = dktX7_journey_6 := dk_seg dksX7_journey_5 22 rfl rfl
theorem dksX7_journey_7 : cX7_journey.data.toList.drop 162 = dktX7_journey_7 := dk_seg dksX7_journey_6 23 rfl rfl
theorem dX7_journey_0 : decode cX7_journey 0 = .ok (.aload_n 0, 1) := dk_42 (dk_at dksX7_journey_0 0 rfl rfl)
theorem dX7_journey_1 : decode cX7_journey 1 = .ok (.iload_n 1, 1) := dk_27 (dk_at dksX7_journey_0 1 rfl rfl)
theorem dX7_journey_2 : decode cX7_journey 2 = .ok (.invokevirtual 105, 3) := dk_182 0 105 (dk_at dksX7_journey_0 2 rfl rfl)
theorem dX7_journey_5 : decode cX7_journey 5 = .ok (.ifCond .eq 21, 3) := dk_153 0 21 (dk_at dksX7_journey_0 5 rfl rfl)
theorem dX7_journey_8 : decode cX7_journey 8 = .ok (.iload_n 2, 1) := dk_28 (dk_at dksX7_journey_0 8 rfl rfl)
theorem dX7_journey_9 : decode cX7_journey 9 = .ok (.iconst 1, 1) := dk_4 (dk_at dksX7_journey_0 9 rfl rfl)
theorem dX7_journey_10 : decode cX7_journey 10 = .ok (.bipush 40, 2) := dk_16 40 (dk_at dksX7_journey_0 10 rfl rfl)
theorem dX7_journey_12 : decode cX7_journey 12 = .ok (.invokestatic 111, 3) := dk_184 0 111 (dk_at dksX7_journey_0 12 rfl rfl)
theorem dX7_journey_15 : decode cX7_journey 15 = .ok (.ifCond .eq 11, 3) := dk_153 0 11 (dk_at dksX7_journey_0 15 rfl rfl)
theorem dX7_journey_18 : decode cX7_journey 18 = .ok (.iload_n 2, 1) := dk_28 (dk_at dksX7_journey_0 18 rfl rfl)
theorem dX7_journey_19 : decode cX7_journey 19 = .ok (.aload_n 0, 1) := dk_42 (dk_at dksX7_journey_0 19 rfl rfl)
theorem dX7_journey_20 : decode cX7_journey 20 = .ok (.getfield 126, 3) := dk_180 0 126 (dk_at dksX7_journey_0 20 rfl rfl)
theorem dX7_journey_23 : decode cX7_journey 23 = .ok (.if_icmp .le 5, 3) := dk_164 0 5 (dk_at dksX7_journey_1 0 rfl rfl)
theorem dX7_journey_26 : decode cX7_journey 26 = .ok (.iconst (-1), 1) := dk_2 (dk_at dksX7_journey_1 3 rfl rfl)
theorem dX7_journey_27 : decode cX7_journey 27 = .ok (.ireturn, 1) := dk_172 (dk_at dksX7_journey_1 4 rfl rfl)
theorem dX7_journey_28 : decode cX7_journey 28 = .ok (.aload_n 0, 1) := dk_42 (dk_at dksX7_journey_1 5 rfl rfl)
theorem dX7_journey_29 : decode cX7_journey 29 = .ok (.iconst 0, 1) := dk_3 (dk_at dksX7_journey_1 6 rfl rfl)
theorem dX7_journey_30 : decode cX7_journey 30 = .ok (.putfield 133, 3) := dk_181 0 133 (dk_at dksX7_journey_1 7 rfl rfl)
theorem dX7_journey_33 : decode cX7_journey 33 = .ok (.aload_n 0, 1) := dk_42 (dk_at dksX7_journey_1 10 rfl rfl)
theorem dX7_journey_34 : decode cX7_journey 34 = .ok (.iload_n 2, 1) := dk_28 (dk_at dksX7_journey_1 11 rfl rfl)
theorem dX7_journey_35 : decode cX7_journey 35 = .ok (.putfield 136, 3) := dk_181 0 136 (dk_at dksX7_journey_1 12 rfl rfl)
theorem dX7_journey_38 : decode cX7_journey 38 = .ok (.aload_n 0, 1) := dk_42 (dk_at dksX7_journey_1 15 rfl rfl)
theorem dX7_journey_39 : decode cX7_journey 39 = .ok (.iconst 0, 1) := dk_3 (dk_at dksX7_journey_1 16 rfl rfl)
theorem dX7_journey_40 : decode cX7_journey 40 = .ok (.putfield 268, 3) := dk_181 1 12 (dk_at dksX7_journey_1 17 rfl rfl)
theorem dX7_journey_43 : decode cX7_journey 43 = .ok (.aload_n 0, 1) := dk_42 (dk_at dksX7_journey_1 20 rfl rfl)
theorem dX7_journey_44 : decode cX7_journey 44 = .ok (.iconst 0, 1) := dk_3 (dk_at dksX7_journey_1 21 rfl rfl)
theorem dX7_journey_45 : decode cX7_journey 45 = .ok (.putfield 274, 3) := dk_181 1 18 (dk_at dksX7_journey_2 0 rfl rfl)
theorem dX7_journey_48 : decode cX7_journey 48 = .ok (.aload_n 0, 1) := dk_42 (dk_at dksX7_journey_2 3 rfl rfl)
theorem dX7_journey_49 : decode cX7_journey 49 = .ok (.invokevirtual 277, 3) := dk_182 1 21 (dk_at dksX7_journey_2 4 rfl rfl)
theorem dX7_journey_52 : decode cX7_journey 52 = .ok (.istore_n 3, 1) := dk_62 (dk_at dksX7_journey_2 7 rfl rfl)
theorem dX7_journey_53 : decode cX7_journey 53 = .ok (.iload_n 3, 1) := dk_29 (dk_at dksX7_journey_2 8 rfl rfl)
theorem dX7_journey_54 : decode cX7_journey 54 = .ok (.ifCond .eq 39, 3) := dk_153 0 39 (dk_at dksX7_journey_2 9 rfl rfl)
theorem dX7_journey_57 : decode cX7_journey 57 = .ok (.aload_n 0, 1) := dk_42 (dk_at dksX7_journey_2 12 rfl rfl)
theorem dX7_journey_58 : decode cX7_journey 58 = .ok (.getfield 133, 3) := dk_180 0 133 (dk_at dksX7_journey_2 13 rfl rfl)
theorem dX7_journey_61 : decode cX7_journey 61 = .ok (.aload_n 0, 1) := dk_42 (dk_at dksX7_journey_2 16 rfl rfl)
theorem dX7_journey_62 : decode cX7_journey 62 = .ok (.getfield 136, 3) := dk_180 0 136 (dk_at dksX7_journey_2 17 rfl rfl)
theorem dX7_journey_65 : decode cX7_journey 65 = .ok (.if_icmp .ge 28, 3) := dk_162 0 28 (dk_at dksX7_journey_2 20 rfl rfl)
theorem dX7_journey_68 : decode cX7_journey 68 = .ok (.aload_n 0, 1) := dk_42 (dk_at dksX7_journey_2 23 rfl rfl)
theorem dX7_journey_69 : decode cX7_journey 69 = .ok (.bipush 44, 2) := dk_16 44 (dk_at dksX7_journey_3 0 rfl rfl)
theorem dX7_journey_71 : decode cX7_journey 71 = .ok (.invokevirtual 222, 3) := dk_182 0 222 (dk_at dksX7_journey_3 2 rfl rfl)
theorem dX7_journey_74 : decode cX7_journey 74 = .ok (.ifCond .eq 14, 3) := dk_153 0 14 (dk_at dksX7_journey_3 5 rfl rfl)
theorem dX7_journey_77 : decode cX7_journey 77 = .ok (.aload_n 0, 1) := dk_42 (dk_at dksX7_journey_3 8 rfl rfl)
theorem dX7_journey_78 : decode cX7_journey 78 = .ok (.invokevirtual 277, 3) := dk_182 1 21 (dk_at dksX7_journey_3 9 rfl rfl)
theorem dX7_journey_81 : decode cX7_journey 81 = .ok (.ifCond .eq 7, 3) := dk_153 0 7 (dk_at dksX7_journey_3 12 rfl rfl)
theorem dX7_journey_84 : decode cX7_journey 84 = .ok (.iconst 1, 1) := dk_4 (dk_at dksX7_journey_3 15 rfl rfl)
theorem dX7_journey_85 : decode cX7_journey 85 = .ok (.goto 4, 3) := dk_167 0 4 (dk_at dksX7_journey_3 16 rfl rfl)
theorem dX7_journey_88 : decode cX7_journey 88 = .ok (.iconst 0, 1) := dk_3 (dk_at dksX7_journey_3 19 rfl rfl)
theorem dX7_journey_89 : decode cX7_journey 89 = .ok (.istore_n 3, 1) := dk_62 (dk_at dksX7_journey_3 20 rfl rfl)
theorem dX7_journey_90 : decode cX7_journey 90 = .ok (.goto (-37), 3) := dk_167 255 219 (dk_at dksX7_journey_3 21 rfl rfl)
theorem dX7_journey_93 : decode cX7_journey 93 = .ok (.aload_n 0, 1) := dk_42 (dk_at dksX7_journey_4 0 rfl rfl)
theorem dX7_journey_94 : decode cX7_journey 94 = .ok (.iconst 0, 1) := dk_3 (dk_at dksX7_journey_4 1 rfl rfl)
theorem dX7_journey_95 : decode cX7_journey 95 = .ok (.putfield 126, 3) := dk_181 0 126 (dk_at dksX7_journey_4 2 rfl rfl)
theorem dX7_journey_98 : decode cX7_journey 98 = .ok (.iload_n 3, 1) := dk_29 (dk_at dksX7_journey_4 5 rfl rfl)
theorem dX7_journey_99 : decode cX7_journey 99 = .ok (.ifCond .ne 8, 3) := dk_154 0 8 (dk_at dksX7_journey_4 6 rfl rfl)
theorem dX7_journey_102 : decode cX7_journey 102 = .ok (.aload_n 0, 1) := dk_42 (dk_at dksX7_journey_4 9 rfl rfl)
theorem dX7_journey_103 : decode cX7_journey 103 = .ok (.getfield 143, 3) := dk_180 0 143 (dk_at dksX7_journey_4 10 rfl rfl)
theorem dX7_journey_106 : decode cX7_journey 106 = .ok (.ireturn, 1) := dk_172 (dk_at dksX7_journey_4 13 rfl rfl)
theorem dX7_journey_107 : decode cX7_journey 107 = .ok (.aload_n 0, 1) := dk_42 (dk_at dksX7_journey_4 14 rfl rfl)
theorem dX7_journey_108 : decode cX7_journey 108 = .ok (.getfield 7, 3) := dk_180 0 7 (dk_at dksX7_journey_4 15 rfl rfl)
theorem dX7_journey_111 : decode cX7_journey 111 = .ok (.bipush 84, 2) := dk_16 84 (dk_at dksX7_journey_4 18 rfl rfl)
theorem dX7_journey_113 : decode cX7_journey 113 = .ok (.iload_n 1, 1) := dk_27 (dk_at dksX7_journey_4 20 rfl rfl)
theorem dX7_journey_114 : decode cX7_journey 114 = .ok (.iadd, 1) := dk_96 (dk_at dksX7_journey_4 21 rfl rfl)
theorem dX7_journey_115 : decode cX7_journey 115 = .ok (.iconst 0, 1) := dk_3 (dk_at dksX7_journey_4 22 rfl rfl)
theorem dX7_journey_116 : decode cX7_journey 116 = .ok (.iastore, 1) := dk_79 (dk_at dksX7_journey_4 23 rfl rfl)
theorem dX7_journey_117 : decode cX7_journey 117 = .ok (.aload_n 0, 1) := dk_42 (dk_at dksX7_journey_5 0 rfl rfl)
theorem dX7_journey_118 : decode cX7_journey 118 = .ok (.getfield 7, 3) := dk_180 0 7 (dk_at dksX7_journey_5 1 rfl rfl)
theorem dX7_journey_121 : decode cX7_journey 121 = .ok (.bipush 96, 2) := dk_16 96 (dk_at dksX7_journey_5 4 rfl rfl)
theorem dX7_journey_123 : decode cX7_journey 123 = .ok (.iload_n 1, 1) := dk_27 (dk_at dksX7_journey_5 6 rfl rfl)
theorem dX7_journey_124 : decode cX7_journey 124 = .ok (.iadd, 1) := dk_96 (dk_at dksX7_journey_5 7 rfl rfl)
theorem dX7_journey_125 : decode cX7_journey 125 = .ok (.aload_n 0, 1) := dk_42 (dk_at dksX7_journey_5 8 rfl rfl)
theorem dX7_journey_126 : decode cX7_journey 126 = .ok (.getfield 268, 3) := dk_180 1 12 (dk_at dksX7_journey_5 9 rfl rfl)
theorem dX7_journey_129 : decode cX7_journey 129 = .ok (.iastore, 1) := dk_79 (dk_at dksX7_journey_5 12 rfl rfl)
theorem dX7_journey_130 : decode cX7_journey 130 = .ok (.iconst 0, 1) := dk_3 (dk_at dksX7_journey_5 13 rfl rfl)
theorem dX7_journey_131 : decode cX7_journey 131 = .ok (.istore 4, 2) := dk_54 4 (dk_at dksX7_journey_5 14 rfl rfl)
theorem dX7_journey_133 : decode cX7_journey 133 = .ok (.iload 4, 2) := dk_21 4 (dk_at dksX7_journey_5 16 rfl rfl)
theorem dX7_journey_135 : decode cX7_journey 135 = .ok (.aload_n 0, 1) := dk_42 (dk_at dksX7_journey_5 18 rfl rfl)
theorem dX7_journey_136 : decode cX7_journey 136 = .ok (.getfield 268, 3) := dk_180 1 12 (dk_at dksX7_journey_5 19 rfl rfl)
theorem dX7_journey_139 : decode cX7_journey 139 = .ok (.if_icmp .ge 33, 3) := dk_162 0 33 (dk_at dksX7_journey_6 0 rfl rfl)
theorem dX7_journey_142 : decode cX7_journey 142 = .ok (.aload_n 0, 1) := dk_42 (dk_at dksX7_journey_6 3 rfl rfl)
theorem dX7_journey_143 : decode cX7_journey 143 = .ok (.getfield 7, 3) := dk_180 0 7 (dk_at dksX7_journey_6 4 rfl rfl)
theorem dX7_journey_146 : decode cX7_journey 146 = .ok (.sipush 208, 3) := dk_17 0 208 (dk_at dksX7_journey_6 7 rfl rfl)
theorem dX7_journey_149 : decode cX7_journey 149 = .ok (.sipush 144, 3) := dk_17 0 144 (dk_at dksX7_journey_6 10 rfl rfl)
theorem dX7_journey_152 : decode cX7_journey 152 = .ok (.iload_n 1, 1) := dk_27 (dk_at dksX7_journey_6 13 rfl rfl)
theorem dX7_journey_153 : decode cX7_journey 153 = .ok (.imul, 1) := dk_104 (dk_at dksX7_journey_6 14 rfl rfl)
theorem dX7_journey_154 : decode cX7_journey 154 = .ok (.iadd, 1) := dk_96 (dk_at dksX7_journey_6 15 rfl rfl)
theorem dX7_journey_155 : decode cX7_journey 155 = .ok (.iload 4, 2) := dk_21 4 (dk_at dksX7_journey_6 16 rfl rfl)
theorem dX7_journey_157 : decode cX7_journey 157 = .ok (.iadd, 1) := dk_96 (dk_at dksX7_journey_6 18 rfl rfl)
theorem dX7_journey_158 : decode cX7_journey 158 = .ok (.aload_n 0, 1) := dk_42 (dk_at dksX7_journey_6 19 rfl rfl)
theorem dX7_journey_159 : decode cX7_journey 159 = .ok (.getfield 65, 3) := dk_180 0 65 (dk_at dksX7_journey_6 20 rfl rfl)
theorem dX7_journey_162 : decode cX7_journey 162 = .ok (.iload 4, 2) := dk_21 4 (dk_at dksX7_journey_7 0 rfl rfl)
theorem dX7_journey_164 : decode cX7_journey 164 = .ok (.iaload, 1) := dk_46 (dk_at dksX7_journey_7 2 rfl rfl)
theorem dX7_journey_165 : decode cX7_journey 165 = .ok (.iastore, 1) := dk_79 (dk_at dksX7_journey_7 3 rfl rfl)
theorem dX7_journey_166 : decode cX7_journey 166 = .ok (.iinc 4 1, 3) := dk_132 4 1 (dk_at dksX7_journey_7 4 rfl rfl)
theorem dX7_journey_169 : decode cX7_journey 169 = .ok (.goto (-36), 3) := dk_167 255 220 (dk_at dksX7_journey_7 7 rfl rfl)
theorem dX7_journey_172 : decode cX7_journey 172 = .ok (.aload_n 0, 1) := dk_42 (dk_at dksX7_journey_7 10 rfl rfl)
theorem dX7_journey_173 : decode cX7_journey 173 = .ok (.getfield 268, 3) := dk_180 1 12 (dk_at dksX7_journey_7 11 rfl rfl)
theorem dX7_journey_176 : decode cX7_journey 176 = .ok (.ireturn, 1) := dk_172 (dk_at dksX7_journey_7 14 rfl rfl)
abbrev cX7_readsStop : ByteArray := prog_21_method_55_code
def yX7_readsStop : MethodName := ⟨RX7, "readsStop", "()Z"⟩
def dkwX7_readsStop_7 : List UInt8 := [96, 181, 1, 12, 42, 42, 180, 1, 18, 4, 96, 181, 1, 18, 4, 172]
abbrev dktX7_readsStop_7 : List UInt8 := dkwX7_readsStop_7 ++ []
def dkwX7_readsStop_6 : List UInt8 := [42, 180, 0, 65, 42, 180, 1, 12, 29, 96, 27, 79, 132, 3, 1, 167, 255, 236, 42, 42, 180, 1, 12, 28]
abbrev dktX7_readsStop_6 : List UInt8 := dkwX7_readsStop_6 ++ dktX7_readsStop_7
def dkwX7_readsStop_5 : List UInt8 := [182, 0, 139, 16, 48, 100, 61, 42, 42, 180, 0, 133, 4, 96, 181, 0, 133, 3, 62, 29, 28, 162, 0, 21]
abbrev dktX7_readsStop_5 : List UInt8 := dkwX7_readsStop_5 ++ dktX7_readsStop_6
def dkwX7_readsStop_4 : List UInt8 := [182, 0, 139, 16, 50, 16, 57, 184, 0, 111, 154, 0, 13, 42, 4, 42, 180, 0, 133, 182, 0, 146, 172, 42]
abbrev dktX7_readsStop_4 : List UInt8 := dkwX7_readsStop_4 ++ dktX7_readsStop_5
def dkwX7_readsStop_3 : List UInt8 := [181, 0, 133, 42, 182, 0, 139, 16, 42, 160, 0, 55, 42, 42, 180, 0, 133, 4, 96, 181, 0, 133, 42]
abbrev dktX7_readsStop_3 : List UInt8 := dkwX7_readsStop_3 ++ dktX7_readsStop_4
def dkwX7_readsStop_2 : List UInt8 := [161, 0, 13, 42, 6, 42, 180, 0, 133, 182, 0, 146, 172, 4, 61, 42, 42, 180, 0, 133, 4, 96]
abbrev dktX7_readsStop_2 : List UInt8 := dkwX7_readsStop_2 ++ dktX7_readsStop_3
def dkwX7_readsStop_1 : List UInt8 := [160, 0, 13, 42, 7, 42, 180, 0, 133, 182, 0, 146, 172, 42, 182, 0, 139, 16, 48, 100, 60, 27, 16, 6]
abbrev dktX7_readsStop_1 : List UInt8 := dkwX7_readsStop_1 ++ dktX7_readsStop_2
def dkwX7_readsStop_0 : List UInt8 := [42, 182, 0, 152, 154, 0, 13, 42, 4, 42, 180, 0, 133, 182, 0, 146, 172, 42, 180, 1, 18, 16, 16]
abbrev dktX7_readsStop_0 : List UInt8 := dkwX7_readsStop_0 ++ dktX7_readsStop_1
theorem dksX7_readsStop_0 : cX7_readsStop.data.toList.drop 0 = dktX7_readsStop_0 := by decide +kernel
theorem dksX7_readsStop_1 : cX7_readsStop.data.toList.drop 23 = dktX7_readsStop_1 := dk_seg dksX7_readsStop_0 23 rfl rfl
theorem dksX7_readsStop_2 : cX7_readsStop.data.toList.drop 47 = dktX7_readsStop_2 := dk_seg dksX7_readsStop_1 24 rfl rfl
theorem dksX7_readsStop_3 : cX7_readsStop.data.toList.drop 69 = dktX7_readsStop_3 := dk_seg dksX7_readsStop_2 22 rfl rfl
theorem dksX7_readsStop_4 : cX7_readsStop.data.toList.drop 92 = dktX7_readsStop_4 := dk_seg dksX7_readsStop_3 23 rfl rfl
theorem dksX7_readsStop_5 : cX7_readsStop.data.toList.drop 116 = dktX7_readsStop_5 := dk_seg dksX7_readsStop_4 24 rfl rfl
theorem dksX7_readsStop_6 : cX7_readsStop.data.toList.drop 140 = dktX7_readsStop_6 := dk_seg dksX7_readsStop_5 24 rfl rfl
theorem dksX7_readsStop_7 : cX7_readsStop.data.toList.drop 164 = dktX7_readsStop_7 := dk_seg dksX7_readsStop_6 24 rfl rfl
theorem dX7_readsStop_0 : decode cX7_readsStop 0 = .ok (.aload_n 0, 1) := dk_42 (dk_at dksX7_readsStop_0 0 rfl rfl)
theorem dX7_readsStop_1 : decode cX7_readsStop 1 = .ok (.invokevirtual 152, 3) := dk_182 0 152 (dk_at dksX7_readsStop_0 1 rfl rfl)
theorem dX7_readsStop_4 : decode cX7_readsStop 4 = .ok (.ifCond .ne 13, 3) := dk_154 0 13 (dk_at dksX7_readsStop_0 4 rfl rfl)
theorem dX7_readsStop_7 : decode cX7_readsStop 7 = .ok (.aload_n 0, 1) := dk_42 (dk_at dksX7_readsStop_0 7 rfl rfl)
theorem dX7_readsStop_8 : decode cX7_readsStop 8 = .ok (.iconst 1, 1) := dk_4 (dk_at dksX7_readsStop_0 8 rfl rfl)
theorem dX7_readsStop_9 : decode cX7_readsStop 9 = .ok (.aload_n 0, 1) := dk_42 (dk_at dksX7_readsStop_0 9 rfl rfl)
theorem dX7_readsStop_10 : decode cX7_readsStop 10 = .ok (.getfield 133, 3) := dk_180 0 133 (dk_at dksX7_readsStop_0 10 rfl rfl)
theorem dX7_readsStop_13 : decode cX7_readsStop 13 = .ok (.invokevirtual 146, 3) := dk_182 0 146 (dk_at dksX7_readsStop_0 13 rfl rfl)
theorem dX7_readsStop_16 : decode cX7_readsStop 16 = .ok (.ireturn, 1) := dk_172 (dk_at dksX7_readsStop_0 16 rfl rfl)
theorem dX7_readsStop_17 : decode cX7_readsStop 17 = .ok (.aload_n 0, 1) := dk_42 (dk_at dksX7_readsStop_0 17 rfl rfl)
theorem dX7_readsStop_18 : decode cX7_readsStop 18 = .ok (.getfield 274, 3) := dk_180 1 18 (dk_at dksX7_readsStop_0 18 rfl rfl)
theorem dX7_readsStop_21 : decode cX7_readsStop 21 = .ok (.bipush 16, 2) := dk_16 16 (dk_at dksX7_readsStop_0 21 rfl rfl)
theorem dX7_readsStop_23 : decode cX7_readsStop 23 = .ok (.if_icmp .ne 13, 3) := dk_160 0 13 (dk_at dksX7_readsStop_1 0 rfl rfl)
theorem dX7_readsStop_26 : decode cX7_readsStop 26 = .ok (.aload_n 0, 1) := dk_42 (dk_at dksX7_readsStop_1 3 rfl rfl)
theorem dX7_readsStop_27 : decode cX7_readsStop 27 = .ok (.iconst 4, 1) := dk_7 (dk_at dksX7_readsStop_1 4 rfl rfl)
theorem dX7_readsStop_28 : decode cX7_readsStop 28 = .ok (.aload_n 0, 1) := dk_42 (dk_at dksX7_readsStop_1 5 rfl rfl)
theorem dX7_readsStop_29 : decode cX7_readsStop 29 = .ok (.getfield 133, 3) := dk_180 0 133 (dk_at dksX7_readsStop_1 6 rfl rfl)
theorem dX7_readsStop_32 : decode cX7_readsStop 32 = .ok (.invokevirtual 146, 3) := dk_182 0 146 (dk_at dksX7_readsStop_1 9 rfl rfl)
theorem dX7_readsStop_35 : decode cX7_readsStop 35 = .ok (.ireturn, 1) := dk_172 (dk_at dksX7_readsStop_1 12 rfl rfl)
theorem dX7_readsStop_36 : decode cX7_readsStop 36 = .ok (.aload_n 0, 1) := dk_42 (dk_at dksX7_readsStop_1 13 rfl rfl)
theorem dX7_readsStop_37 : decode cX7_readsStop 37 = .ok (.invokevirtual 139, 3) := dk_182 0 139 (dk_at dksX7_readsStop_1 14 rfl rfl)
theorem dX7_readsStop_40 : decode cX7_readsStop 40 = .ok (.bipush 48, 2) := dk_16 48 (dk_at dksX7_readsStop_1 17 rfl rfl)
theorem dX7_readsStop_42 : decode cX7_readsStop 42 = .ok (.isub, 1) := dk_100 (dk_at dksX7_readsStop_1 19 rfl rfl)
theorem dX7_readsStop_43 : decode cX7_readsStop 43 = .ok (.istore_n 1, 1) := dk_60 (dk_at dksX7_readsStop_1 20 rfl rfl)
theorem dX7_readsStop_44 : decode cX7_readsStop 44 = .ok (.iload_n 1, 1) := dk_27 (dk_at dksX7_readsStop_1 21 rfl rfl)
theorem dX7_readsStop_45 : decode cX7_readsStop 45 = .ok (.bipush 6, 2) := dk_16 6 (dk_at dksX7_readsStop_1 22 rfl rfl)
theorem dX7_readsStop_47 : decode cX7_readsStop 47 = .ok (.if_icmp .lt 13, 3) := dk_161 0 13 (dk_at dksX7_readsStop_2 0 rfl rfl)
theorem dX7_readsStop_50 : decode cX7_readsStop 50 = .ok (.aload_n 0, 1) := dk_42 (dk_at dksX7_readsStop_2 3 rfl rfl)
theorem dX7_readsStop_51 : decode cX7_readsStop 51 = .ok (.iconst 3, 1) := dk_6 (dk_at dksX7_readsStop_2 4 rfl rfl)
theorem dX7_readsStop_52 : decode cX7_readsStop 52 = .ok (.aload_n 0, 1) := dk_42 (dk_at dksX7_readsStop_2 5 rfl rfl)
theorem dX7_readsStop_53 : decode cX7_readsStop 53 = .ok (.getfield 133, 3) := dk_180 0 133 (dk_at dksX7_readsStop_2 6 rfl rfl)
theorem dX7_readsStop_56 : decode cX7_readsStop 56 = .ok (.invokevirtual 146, 3) := dk_182 0 146 (dk_at dksX7_readsStop_2 9 rfl rfl)
theorem dX7_readsStop_59 : decode cX7_readsStop 59 = .ok (.ireturn, 1) := dk_172 (dk_at dksX7_readsStop_2 12 rfl rfl)
theorem dX7_readsStop_60 : decode cX7_readsStop 60 = .ok (.iconst 1, 1) := dk_4 (dk_at dksX7_readsStop_2 13 rfl rfl)
theorem dX7_readsStop_61 : decode cX7_readsStop 61 = .ok (.istore_n 2, 1) := dk_61 (dk_at dksX7_readsStop_2 14 rfl rfl)
theorem dX7_readsStop_62 : decode cX7_readsStop 62 = .ok (.aload_n 0, 1) := dk_42 (dk_at dksX7_readsStop_2 15 rfl rfl)
theorem dX7_readsStop_63 : decode cX7_readsStop 63 = .ok (.aload_n 0, 1) := dk_42 (dk_at dksX7_readsStop_2 16 rfl rfl)
theorem dX7_readsStop_64 : decode cX7_readsStop 64 = .ok (.getfield 133, 3) := dk_180 0 133 (dk_at dksX7_readsStop_2 17 rfl rfl)
theorem dX7_readsStop_67 : decode cX7_readsStop 67 = .ok (.iconst 1, 1) := dk_4 (dk_at dksX7_readsStop_2 20 rfl rfl)
theorem dX7_readsStop_68 : decode cX7_readsStop 68 = .ok (.iadd, 1) := dk_96 (dk_at dksX7_readsStop_2 21 rfl rfl)
theorem dX7_readsStop_69 : decode cX7_readsStop 69 = .ok (.putfield 133, 3) := dk_181 0 133 (dk_at dksX7_readsStop_3 0 rfl rfl)
theorem dX7_readsStop_72 : decode cX7_readsStop 72 = .ok (.aload_n 0, 1) := dk_42 (dk_at dksX7_readsStop_3 3 rfl rfl)
theorem dX7_readsStop_73 : decode cX7_readsStop 73 = .ok (.invokevirtual 139, 3) := dk_182 0 139 (dk_at dksX7_readsStop_3 4 rfl rfl)
theorem dX7_readsStop_76 : decode cX7_readsStop 76 = .ok (.bipush 42, 2) := dk_16 42 (dk_at dksX7_readsStop_3 7 rfl rfl)
theorem dX7_readsStop_78 : decode cX7_readsStop 78 = .ok (.if_icmp .ne 55, 3) := dk_160 0 55 (dk_at dksX7_readsStop_3 9 rfl rfl)
theorem dX7_readsStop_81 : decode cX7_readsStop 81 = .ok (.aload_n 0, 1) := dk_42 (dk_at dksX7_readsStop_3 12 rfl rfl)
theorem dX7_readsStop_82 : decode cX7_readsStop 82 = .ok (.aload_n 0, 1) := dk_42 (dk_at dksX7_readsStop_3 13 rfl rfl)
theorem dX7_readsStop_83 : decode cX7_readsStop 83 = .ok (.getfield 133, 3) := dk_180 0 133 (dk_at dksX7_readsStop_3 14 rfl rfl)
theorem dX7_readsStop_86 : decode cX7_readsStop 86 = .ok (.iconst 1, 1) := dk_4 (dk_at dksX7_readsStop_3 17 rfl rfl)
theorem dX7_readsStop_87 : decode cX7_readsStop 87 = .ok (.iadd, 1) := dk_96 (dk_at dksX7_readsStop_3 18 rfl rfl)
theorem dX7_readsStop_88 : decode cX7_readsStop 88 = .ok (.putfield 133, 3) := dk_181 0 133 (dk_at dksX7_readsStop_3 19 rfl rfl)
theorem dX7_readsStop_91 : decode cX7_readsStop 91 = .ok (.aload_n 0, 1) := dk_42 (dk_at dksX7_readsStop_3 22 rfl rfl)
theorem dX7_readsStop_92 : decode cX7_readsStop 92 = .ok (.invokevirtual 139, 3) := dk_182 0 139 (dk_at dksX7_readsStop_4 0 rfl rfl)
theorem dX7_readsStop_95 : decode cX7_readsStop 95 = .ok (.bipush 50, 2) := dk_16 50 (dk_at dksX7_readsStop_4 3 rfl rfl)
theorem dX7_readsStop_97 : decode cX7_readsStop 97 = .ok (.bipush 57, 2) := dk_16 57 (dk_at dksX7_readsStop_4 5 rfl rfl)
theorem dX7_readsStop_99 : decode cX7_readsStop 99 = .ok (.invokestatic 111, 3) := dk_184 0 111 (dk_at dksX7_readsStop_4 7 rfl rfl)
theorem dX7_readsStop_102 : decode cX7_readsStop 102 = .ok (.ifCond .ne 13, 3) := dk_154 0 13 (dk_at dksX7_readsStop_4 10 rfl rfl)
theorem dX7_readsStop_105 : decode cX7_readsStop 105 = .ok (.aload_n 0, 1) := dk_42 (dk_at dksX7_readsStop_4 13 rfl rfl)
theorem dX7_readsStop_106 : decode cX7_readsStop 106 = .ok (.iconst 1, 1) := dk_4 (dk_at dksX7_readsStop_4 14 rfl rfl)
theorem dX7_readsStop_107 : decode cX7_readsStop 107 = .ok (.aload_n 0, 1) := dk_42 (dk_at dksX7_readsStop_4 15 rfl rfl)
theorem dX7_readsStop_108 : decode cX7_readsStop 108 = .ok (.getfield 133, 3) := dk_180 0 133 (dk_at dksX7_readsStop_4 16 rfl rfl)
theorem dX7_readsStop_111 : decode cX7_readsStop 111 = .ok (.invokevirtual 146, 3) := dk_182 0 146 (dk_at dksX7_readsStop_4 19 rfl rfl)
theorem dX7_readsStop_114 : decode cX7_readsStop 114 = .ok (.ireturn, 1) := dk_172 (dk_at dksX7_readsStop_4 22 rfl rfl)
theorem dX7_readsStop_115 : decode cX7_readsStop 115 = .ok (.aload_n 0, 1) := dk_42 (dk_at dksX7_readsStop_4 23 rfl rfl)
theorem dX7_readsStop_116 : decode cX7_readsStop 116 = .ok (.invokevirtual 139, 3) := dk_182 0 139 (dk_at dksX7_readsStop_5 0 rfl rfl)
theorem dX7_readsStop_119 : decode cX7_readsStop 119 = .ok (.bipush 48, 2) := dk_16 48 (dk_at dksX7_readsStop_5 3 rfl rfl)
theorem dX7_readsStop_121 : decode cX7_readsStop 121 = .ok (.isub, 1) := dk_100 (dk_at dksX7_readsStop_5 5 rfl rfl)
theorem dX7_readsStop_122 : decode cX7_readsStop 122 = .ok (.istore_n 2, 1) := dk_61 (dk_at dksX7_readsStop_5 6 rfl rfl)
theorem dX7_readsStop_123 : decode cX7_readsStop 123 = .ok (.aload_n 0, 1) := dk_42 (dk_at dksX7_readsStop_5 7 rfl rfl)
theorem dX7_readsStop_124 : decode cX7_readsStop 124 = .ok (.aload_n 0, 1) := dk_42 (dk_at dksX7_readsStop_5 8 rfl rfl)
theorem dX7_readsStop_125 : decode cX7_readsStop 125 = .ok (.getfield 133, 3) := dk_180 0 133 (dk_at dksX7_readsStop_5 9 rfl rfl)
theorem dX7_readsStop_128 : decode cX7_readsStop 128 = .ok (.iconst 1, 1) := dk_4 (dk_at dksX7_readsStop_5 12 rfl rfl)
theorem dX7_readsStop_129 : decode cX7_readsStop 129 = .ok (.iadd, 1) := dk_96 (dk_at dksX7_readsStop_5 13 rfl rfl)
theorem dX7_readsStop_130 : decode cX7_readsStop 130 = .ok (.putfield 133, 3) := dk_181 0 133 (dk_at dksX7_readsStop_5 14 rfl rfl)
theorem dX7_readsStop_133 : decode cX7_readsStop 133 = .ok (.iconst 0, 1) := dk_3 (dk_at dksX7_readsStop_5 17 rfl rfl)
theorem dX7_readsStop_134 : decode cX7_readsStop 134 = .ok (.istore_n 3, 1) := dk_62 (dk_at dksX7_readsStop_5 18 rfl rfl)
theorem dX7_readsStop_135 : decode cX7_readsStop 135 = .ok (.iload_n 3, 1) := dk_29 (dk_at dksX7_readsStop_5 19 rfl rfl)
theorem dX7_readsStop_136 : decode cX7_readsStop 136 = .ok (.iload_n 2, 1) := dk_28 (dk_at dksX7_readsStop_5 20 rfl rfl)
theorem dX7_readsStop_137 : decode cX7_readsStop 137 = .ok (.if_icmp .ge 21, 3) := dk_162 0 21 (dk_at dksX7_readsStop_5 21 rfl rfl)
theorem dX7_readsStop_140 : decode cX7_readsStop 140 = .ok (.aload_n 0, 1) := dk_42 (dk_at dksX7_readsStop_6 0 rfl rfl)
theorem dX7_readsStop_141 : decode cX7_readsStop 141 = .ok (.getfield 65, 3) := dk_180 0 65 (dk_at dksX7_readsStop_6 1 rfl rfl)
theorem dX7_readsStop_144 : decode cX7_readsStop 144 = .ok (.aload_n 0, 1) := dk_42 (dk_at dksX7_readsStop_6 4 rfl rfl)
theorem dX7_readsStop_145 : decode cX7_readsStop 145 = .ok (.getfield 268, 3) := dk_180 1 12 (dk_at dksX7_readsStop_6 5 rfl rfl)
theorem dX7_readsStop_148 : decode cX7_readsStop 148 = .ok (.iload_n 3, 1) := dk_29 (dk_at dksX7_readsStop_6 8 rfl rfl)
theorem dX7_readsStop_149 : decode cX7_readsStop 149 = .ok (.iadd, 1) := dk_96 (dk_at dksX7_readsStop_6 9 rfl rfl)
theorem dX7_readsStop_150 : decode cX7_readsStop 150 = .ok (.iload_n 1, 1) := dk_27 (dk_at dksX7_readsStop_6 10 rfl rfl)
theorem dX7_readsStop_151 : decode cX7_readsStop 151 = .ok (.iastore, 1) := dk_79 (dk_at dksX7_readsStop_6 11 rfl rfl)
theorem dX7_readsStop_152 : decode cX7_readsStop 152 = .ok (.iinc 3 1, 3) := dk_132 3 1 (dk_at dksX7_readsStop_6 12 rfl rfl)
theorem dX7_readsStop_155 : decode cX7_readsStop 155 = .ok (.goto (-20), 3) := dk_167 255 236 (dk_at dksX7_readsStop_6 15 rfl rfl)
theorem dX7_readsStop_158 : decode cX7_readsStop 158 = .ok (.aload_n 0, 1) := dk_42 (dk_at dksX7_readsStop_6 18 rfl rfl)
theorem dX7_readsStop_159 : decode cX7_readsStop 159 = .ok (.aload_n 0, 1) := dk_42 (dk_at dksX7_readsStop_6 19 rfl rfl)
theorem dX7_readsStop_160 : decode cX7_readsStop 160 = .ok (.getfield 268, 3) := dk_180 1 12 (dk_at dksX7_readsStop_6 20 rfl rfl)
theorem dX7_readsStop_163 : decode cX7_readsStop 163 = .ok (.iload_n 2, 1) := dk_28 (dk_at dksX7_readsStop_6 23 rfl rfl)
theorem dX7_readsStop_164 : decode cX7_readsStop 164 = .ok (.iadd, 1) := dk_96 (dk_at dksX7_readsStop_7 0 rfl rfl)
theorem dX7_readsStop_165 : decode cX7_readsStop 165 = .ok (.putfield 268, 3) := dk_181 1 12 (dk_at dksX7_readsStop_7 1 rfl rfl)
theorem dX7_readsStop_168 : decode cX7_readsStop 168 = .ok (.aload_n 0, 1) := dk_42 (dk_at dksX7_readsStop_7 4 rfl rfl)
theorem dX7_readsStop_169 : decode cX7_readsStop 169 = .ok (.aload_n 0, 1) := dk_42 (dk_at dksX7_readsStop_7 5 rfl rfl)
theorem dX7_readsStop_170 : decode cX7_readsStop 170 = .ok (.getfield 274, 3) := dk_180 1 18 (dk_at dksX7_readsStop_7 6 rfl rfl)
theorem dX7_readsStop_173 : decode cX7_readsStop 173 = .ok (.iconst 1, 1) := dk_4 (dk_at dksX7_readsStop_7 9 rfl rfl)
theorem dX7_readsStop_174 : decode cX7_readsStop 174 = .ok (.iadd, 1) := dk_96 (dk_at dksX7_readsStop_7 10 rfl rfl)
theorem dX7_readsStop_175 : decode cX7_readsStop 175 = .ok (.putfield 274, 3) := dk_181 1 18 (dk_at dksX7_readsStop_7 11 rfl rfl)
theorem dX7_readsStop_178 : decode cX7_readsStop 178 = .ok (.iconst 1, 1) := dk_4 (dk_at dksX7_readsStop_7 14 rfl rfl)
theorem dX7_readsStop_179 : decode cX7_readsStop 179 = .ok (.ireturn, 1) := dk_172 (dk_at dksX7_readsStop_7 15 rfl rfl)
abbrev cX7_days : ByteArray := prog_21_method_65_code
def yX7_days : MethodName := ⟨RX7, "days", "(I)I"⟩
def dkwX7_days_0 : List UInt8 := [27, 4, 16, 60, 184, 0, 111, 154, 0, 5, 2, 172, 42, 27, 182, 1, 58, 42, 180, 1, 33, 172]
abbrev dktX7_days_0 : List UInt8 := dkwX7_days_0 ++ []
theorem dksX7_days_0 : cX7_days.data.toList.drop 0 = dktX7_days_0 := by decide +kernel
theorem dX7_days_0 : decode cX7_days 0 = .ok (.iload_n 1, 1) := dk_27 (dk_at dksX7_days_0 0 rfl rfl)
theorem dX7_days_1 : decode cX7_days 1 = .ok (.iconst 1, 1) := dk_4 (dk_at dksX7_days_0 1 rfl rfl)
theorem dX7_days_2 : decode cX7_days 2 = .ok (.bipush 60, 2) := dk_16 60 (dk_at dksX7_days_0 2 rfl rfl)
theorem dX7_days_4 : decode cX7_days 4 = .ok (.invokestatic 111, 3) := dk_184 0 111 (dk_at dksX7_days_0 4 rfl rfl)
theorem dX7_days_7 : decode cX7_days 7 = .ok (.ifCond .ne 5, 3) := dk_154 0 5 (dk_at dksX7_days_0 7 rfl rfl)
theorem dX7_days_10 : decode cX7_days 10 = .ok (.iconst (-1), 1) := dk_2 (dk_at dksX7_days_0 10 rfl rfl)
theorem dX7_days_11 : decode cX7_days 11 = .ok (.ireturn, 1) := dk_172 (dk_at dksX7_days_0 11 rfl rfl)
theorem dX7_days_12 : decode cX7_days 12 = .ok (.aload_n 0, 1) := dk_42 (dk_at dksX7_days_0 12 rfl rfl)
theorem dX7_days_13 : decode cX7_days 13 = .ok (.iload_n 1, 1) := dk_27 (dk_at dksX7_days_0 13 rfl rfl)
theorem dX7_days_14 : decode cX7_days 14 = .ok (.invokevirtual 314, 3) := dk_182 1 58 (dk_at dksX7_days_0 14 rfl rfl)
theorem dX7_days_17 : decode cX7_days 17 = .ok (.aload_n 0, 1) := dk_42 (dk_at dksX7_days_0 17 rfl rfl)
theorem dX7_days_18 : decode cX7_days 18 = .ok (.getfield 289, 3) := dk_180 1 33 (dk_at dksX7_days_0 18 rfl rfl)
theorem dX7_days_21 : decode cX7_days 21 = .ok (.ireturn, 1) := dk_172 (dk_at dksX7_days_0 21 rfl rfl)
abbrev cX7_daysGo : ByteArray := prog_21_method_64_code
def yX7_daysGo : MethodName := ⟨RX7, "daysGo", "(I)V"⟩
def dkwX7_daysGo_5 : List UInt8 := [180, 0, 7, 16, 110, 46, 4, 96, 79, 132, 2, 1, 167, 255, 144, 177]
abbrev dktX7_daysGo_5 : List UInt8 := dkwX7_daysGo_5 ++ []
def dkwX7_daysGo_4 : List UInt8 := [29, 16, 12, 162, 0, 14, 42, 29, 182, 1, 55, 132, 3, 1, 167, 255, 242, 42, 180, 0, 7, 16, 110, 42]
abbrev dktX7_daysGo_4 : List UInt8 := dkwX7_daysGo_4 ++ dktX7_daysGo_5
def dkwX7_daysGo_3 : List UInt8 := [162, 0, 16, 42, 29, 21, 4, 182, 1, 52, 132, 4, 1, 167, 255, 239, 132, 3, 1, 167, 255, 224, 3, 62]
abbrev dktX7_daysGo_3 : List UInt8 := dkwX7_daysGo_3 ++ dktX7_daysGo_4
def dkwX7_daysGo_2 : List UInt8 := [182, 1, 49, 132, 3, 1, 167, 255, 242, 3, 62, 29, 16, 6, 162, 0, 32, 3, 54, 4, 21, 4, 16, 12]
abbrev dktX7_daysGo_2 : List UInt8 := dkwX7_daysGo_2 ++ dktX7_daysGo_3
def dkwX7_daysGo_1 : List UInt8 := [180, 0, 7, 16, 110, 46, 17, 39, 15, 162, 0, 100, 3, 62, 29, 16, 12, 162, 0, 14, 42, 29]
abbrev dktX7_daysGo_1 : List UInt8 := dkwX7_daysGo_1 ++ dktX7_daysGo_2
def dkwX7_daysGo_0 : List UInt8 := [42, 3, 181, 1, 33, 42, 3, 181, 1, 24, 42, 3, 181, 1, 46, 3, 61, 28, 27, 162, 0, 113, 42]
abbrev dktX7_daysGo_0 : List UInt8 := dkwX7_daysGo_0 ++ dktX7_daysGo_1
theorem dksX7_daysGo_0 : cX7_daysGo.data.toList.drop 0 = dktX7_daysGo_0 := by decide +kernel
theorem dksX7_daysGo_1 : cX7_daysGo.data.toList.drop 23 = dktX7_daysGo_1 := dk_seg dksX7_daysGo_0 23 rfl rfl
theorem dksX7_daysGo_2 : cX7_daysGo.data.toList.drop 45 = dktX7_daysGo_2 := dk_seg dksX7_daysGo_1 22 rfl rfl
theorem dksX7_daysGo_3 : cX7_daysGo.data.toList.drop 69 = dktX7_daysGo_3 := dk_seg dksX7_daysGo_2 24 rfl rfl
theorem dksX7_daysGo_4 : cX7_daysGo.data.toList.drop 93 = dktX7_daysGo_4 := dk_seg dksX7_daysGo_3 24 rfl rfl
theorem dksX7_daysGo_5 : cX7_daysGo.data.toList.drop 117 = dktX7_daysGo_5 := dk_seg dksX7_daysGo_4 24 rfl rfl
theorem dX7_daysGo_0 : decode cX7_daysGo 0 = .ok (.aload_n 0, 1) := dk_42 (dk_at dksX7_daysGo_0 0 rfl rfl)
theorem dX7_daysGo_1 : decode cX7_daysGo 1 = .ok (.iconst 0, 1) := dk_3 (dk_at dksX7_daysGo_0 1 rfl rfl)
theorem dX7_daysGo_2 : decode cX7_daysGo 2 = .ok (.putfield 289, 3) := dk_181 1 33 (dk_at dksX7_daysGo_0 2 rfl rfl)
theorem dX7_daysGo_5 : decode cX7_daysGo 5 = .ok (.aload_n 0, 1) := dk_42 (dk_at dksX7_daysGo_0 5 rfl rfl)
theorem dX7_daysGo_6 : decode cX7_daysGo 6 = .ok (.iconst 0, 1) := dk_3 (dk_at dksX7_daysGo_0 6 rfl rfl)
theorem dX7_daysGo_7 : decode cX7_daysGo 7 = .ok (.putfield 280, 3) := dk_181 1 24 (dk_at dksX7_daysGo_0 7 rfl rfl)
theorem dX7_daysGo_10 : decode cX7_daysGo 10 = .ok (.aload_n 0, 1) := dk_42 (dk_at dksX7_daysGo_0 10 rfl rfl)
theorem dX7_daysGo_11 : decode cX7_daysGo 11 = .ok (.iconst 0, 1) := dk_3 (dk_at dksX7_daysGo_0 11 rfl rfl)
theorem dX7_daysGo_12 : decode cX7_daysGo 12 = .ok (.putfield 302, 3) := dk_181 1 46 (dk_at dksX7_daysGo_0 12 rfl rfl)
theorem dX7_daysGo_15 : decode cX7_daysGo 15 = .ok (.iconst 0, 1) := dk_3 (dk_at dksX7_daysGo_0 15 rfl rfl)
theorem dX7_daysGo_16 : decode cX7_daysGo 16 = .ok (.istore_n 2, 1) := dk_61 (dk_at dksX7_daysGo_0 16 rfl rfl)
theorem dX7_daysGo_17 : decode cX7_daysGo 17 = .ok (.iload_n 2, 1) := dk_28 (dk_at dksX7_daysGo_0 17 rfl rfl)
theorem dX7_daysGo_18 : decode cX7_daysGo 18 = .ok (.iload_n 1, 1) := dk_27 (dk_at dksX7_daysGo_0 18 rfl rfl)
theorem dX7_daysGo_19 : decode cX7_daysGo 19 = .ok (.if_icmp .ge 113, 3) := dk_162 0 113 (dk_at dksX7_daysGo_0 19 rfl rfl)
theorem dX7_daysGo_22 : decode cX7_daysGo 22 = .ok (.aload_n 0, 1) := dk_42 (dk_at dksX7_daysGo_0 22 rfl rfl)
theorem dX7_daysGo_23 : decode cX7_daysGo 23 = .ok (.getfield 7, 3) := dk_180 0 7 (dk_at dksX7_daysGo_1 0 rfl rfl)
theorem dX7_daysGo_26 : decode cX7_daysGo 26 = .ok (.bipush 110, 2) := dk_16 110 (dk_at dksX7_daysGo_1 3 rfl rfl)
theorem dX7_daysGo_28 : decode cX7_daysGo 28 = .ok (.iaload, 1) := dk_46 (dk_at dksX7_daysGo_1 5 rfl rfl)
theorem dX7_daysGo_29 : decode cX7_daysGo 29 = .ok (.sipush 9999, 3) := dk_17 39 15 (dk_at dksX7_daysGo_1 6 rfl rfl)
theorem dX7_daysGo_32 : decode cX7_daysGo 32 = .ok (.if_icmp .ge 100, 3) := dk_162 0 100 (dk_at dksX7_daysGo_1 9 rfl rfl)
theorem dX7_daysGo_35 : decode cX7_daysGo 35 = .ok (.iconst 0, 1) := dk_3 (dk_at dksX7_daysGo_1 12 rfl rfl)
theorem dX7_daysGo_36 : decode cX7_daysGo 36 = .ok (.istore_n 3, 1) := dk_62 (dk_at dksX7_daysGo_1 13 rfl rfl)
theorem dX7_daysGo_37 : decode cX7_daysGo 37 = .ok (.iload_n 3, 1) := dk_29 (dk_at dksX7_daysGo_1 14 rfl rfl)
theorem dX7_daysGo_38 : decode cX7_daysGo 38 = .ok (.bipush 12, 2) := dk_16 12 (dk_at dksX7_daysGo_1 15 rfl rfl)
theorem dX7_daysGo_40 : decode cX7_daysGo 40 = .ok (.if_icmp .ge 14, 3) := dk_162 0 14 (dk_at dksX7_daysGo_1 17 rfl rfl)
theorem dX7_daysGo_43 : decode cX7_daysGo 43 = .ok (.aload_n 0, 1) := dk_42 (dk_at dksX7_daysGo_1 20 rfl rfl)
theorem dX7_daysGo_44 : decode cX7_daysGo 44 = .ok (.iload_n 3, 1) := dk_29 (dk_at dksX7_daysGo_1 21 rfl rfl)
theorem dX7_daysGo_45 : decode cX7_daysGo 45 = .ok (.invokevirtual 305, 3) := dk_182 1 49 (dk_at dksX7_daysGo_2 0 rfl rfl)
theorem dX7_daysGo_48 : decode cX7_daysGo 48 = .ok (.iinc 3 1, 3) := dk_132 3 1 (dk_at dksX7_daysGo_2 3 rfl rfl)
theorem dX7_daysGo_51 : decode cX7_daysGo 51 = .ok (.goto (-14), 3) := dk_167 255 242 (dk_at dksX7_daysGo_2 6 rfl rfl)
theorem dX7_daysGo_54 : decode cX7_daysGo 54 = .ok (.iconst 0, 1) := dk_3 (dk_at dksX7_daysGo_2 9 rfl rfl)
theorem dX7_daysGo_55 : decode cX7_daysGo 55 = .ok (.istore_n 3, 1) := dk_62 (dk_at dksX7_daysGo_2 10 rfl rfl)
theorem dX7_daysGo_56 : decode cX7_daysGo 56 = .ok (.iload_n 3, 1) := dk_29 (dk_at dksX7_daysGo_2 11 rfl rfl)
theorem dX7_daysGo_57 : decode cX7_daysGo 57 = .ok (.bipush 6, 2) := dk_16 6 (dk_at dksX7_daysGo_2 12 rfl rfl)
theorem dX7_daysGo_59 : decode cX7_daysGo 59 = .ok (.if_icmp .ge 32, 3) := dk_162 0 32 (dk_at dksX7_daysGo_2 14 rfl rfl)
theorem dX7_daysGo_62 : decode cX7_daysGo 62 = .ok (.iconst 0, 1) := dk_3 (dk_at dksX7_daysGo_2 17 rfl rfl)
theorem dX7_daysGo_63 : decode cX7_daysGo 63 = .ok (.istore 4, 2) := dk_54 4 (dk_at dksX7_daysGo_2 18 rfl rfl)
theorem dX7_daysGo_65 : decode cX7_daysGo 65 = .ok (.iload 4, 2) := dk_21 4 (dk_at dksX7_daysGo_2 20 rfl rfl)
theorem dX7_daysGo_67 : decode cX7_daysGo 67 = .ok (.bipush 12, 2) := dk_16 12 (dk_at dksX7_daysGo_2 22 rfl rfl)
theorem dX7_daysGo_69 : decode cX7_daysGo 69 = .ok (.if_icmp .ge 16, 3) := dk_162 0 16 (dk_at dksX7_daysGo_3 0 rfl rfl)
theorem dX7_daysGo_72 : decode cX7_daysGo 72 = .ok (.aload_n 0, 1) := dk_42 (dk_at dksX7_daysGo_3 3 rfl rfl)
theorem dX7_daysGo_73 : decode cX7_daysGo 73 = .ok (.iload_n 3, 1) := dk_29 (dk_at dksX7_daysGo_3 4 rfl rfl)
theorem dX7_daysGo_74 : decode cX7_daysGo 74 = .ok (.iload 4, 2) := dk_21 4 (dk_at dksX7_daysGo_3 5 rfl rfl)
theorem dX7_daysGo_76 : decode cX7_daysGo 76 = .ok (.invokevirtual 308, 3) := dk_182 1 52 (dk_at dksX7_daysGo_3 7 rfl rfl)
theorem dX7_daysGo_79 : decode cX7_daysGo 79 = .ok (.iinc 4 1, 3) := dk_132 4 1 (dk_at dksX7_daysGo_3 10 rfl rfl)
theorem dX7_daysGo_82 : decode cX7_daysGo 82 = .ok (.goto (-17), 3) := dk_167 255 239 (dk_at dksX7_daysGo_3 13 rfl rfl)
theorem dX7_daysGo_85 : decode cX7_daysGo 85 = .ok (.iinc 3 1, 3) := dk_132 3 1 (dk_at dksX7_daysGo_3 16 rfl rfl)
theorem dX7_daysGo_88 : decode cX7_daysGo 88 = .ok (.goto (-32), 3) := dk_167 255 224 (dk_at dksX7_daysGo_3 19 rfl rfl)
theorem dX7_daysGo_91 : decode cX7_daysGo 91 = .ok (.iconst 0, 1) := dk_3 (dk_at dksX7_daysGo_3 22 rfl rfl)
theorem dX7_daysGo_92 : decode cX7_daysGo 92 = .ok (.istore_n 3, 1) := dk_62 (dk_at dksX7_daysGo_3 23 rfl rfl)
theorem dX7_daysGo_93 : decode cX7_daysGo 93 = .ok (.iload_n 3, 1) := dk_29 (dk_at dksX7_daysGo_4 0 rfl rfl)
theorem dX7_daysGo_94 : decode cX7_daysGo 94 = .ok (.bipush 12, 2) := dk_16 12 (dk_at dksX7_daysGo_4 1 rfl rfl)
theorem dX7_daysGo_96 : decode cX7_daysGo 96 = .ok (.if_icmp .ge 14, 3) := dk_162 0 14 (dk_at dksX7_daysGo_4 3 rfl rfl)
theorem dX7_daysGo_99 : decode cX7_daysGo 99 = .ok (.aload_n 0, 1) := dk_42 (dk_at dksX7_daysGo_4 6 rfl rfl)
theorem dX7_daysGo_100 : decode cX7_daysGo 100 = .ok (.iload_n 3, 1) := dk_29 (dk_at dksX7_daysGo_4 7 rfl rfl)
theorem dX7_daysGo_101 : decode cX7_daysGo 101 = .ok (.invokevirtual 311, 3) := dk_182 1 55 (dk_at dksX7_daysGo_4 8 rfl rfl)
theorem dX7_daysGo_104 : decode cX7_daysGo 104 = .ok (.iinc 3 1, 3) := dk_132 3 1 (dk_at dksX7_daysGo_4 11 rfl rfl)
theorem dX7_daysGo_107 : decode cX7_daysGo 107 = .ok (.goto (-14), 3) := dk_167 255 242 (dk_at dksX7_daysGo_4 14 rfl rfl)
theorem dX7_daysGo_110 : decode cX7_daysGo 110 = .ok (.aload_n 0, 1) := dk_42 (dk_at dksX7_daysGo_4 17 rfl rfl)
theorem dX7_daysGo_111 : decode cX7_daysGo 111 = .ok (.getfield 7, 3) := dk_180 0 7 (dk_at dksX7_daysGo_4 18 rfl rfl)
theorem dX7_daysGo_114 : decode cX7_daysGo 114 = .ok (.bipush 110, 2) := dk_16 110 (dk_at dksX7_daysGo_4 21 rfl rfl)
theorem dX7_daysGo_116 : decode cX7_daysGo 116 = .ok (.aload_n 0, 1) := dk_42 (dk_at dksX7_daysGo_4 23 rfl rfl)
theorem dX7_daysGo_117 : decode cX7_daysGo 117 = .ok (.getfield 7, 3) := dk_180 0 7 (dk_at dksX7_daysGo_5 0 rfl rfl)
theorem dX7_daysGo_120 : decode cX7_daysGo 120 = .ok (.bipush 110, 2) := dk_16 110 (dk_at dksX7_daysGo_5 3 rfl rfl)
theorem dX7_daysGo_122 : decode cX7_daysGo 122 = .ok (.iaload, 1) := dk_46 (dk_at dksX7_daysGo_5 5 rfl rfl)
theorem dX7_daysGo_123 : decode cX7_daysGo 123 = .ok (.iconst 1, 1) := dk_4 (dk_at dksX7_daysGo_5 6 rfl rfl)
theorem dX7_daysGo_124 : decode cX7_daysGo 124 = .ok (.iadd, 1) := dk_96 (dk_at dksX7_daysGo_5 7 rfl rfl)
theorem dX7_daysGo_125 : decode cX7_daysGo 125 = .ok (.iastore, 1) := dk_79 (dk_at dksX7_daysGo_5 8 rfl rfl)
theorem dX7_daysGo_126 : decode cX7_daysGo 126 = .ok (.iinc 2 1, 3) := dk_132 2 1 (dk_at dksX7_daysGo_5 9 rfl rfl)
theorem dX7_daysGo_129 : decode cX7_daysGo 129 = .ok (.goto (-112), 3) := dk_167 255 144 (dk_at dksX7_daysGo_5 12 rfl rfl)
theorem dX7_daysGo_132 : decode cX7_daysGo 132 = .ok (.return_, 1) := dk_177 (dk_at dksX7_daysGo_5 15 rfl rfl)
abbrev cX7_travels : ByteArray := prog_21_method_57_code
def yX7_travels : MethodName := ⟨RX7, "travels", "(I)V"⟩
def dkwX7_travels_3 : List UInt8 := [180, 0, 7, 16, 84, 27, 96, 46, 4, 96, 79, 177]
abbrev dktX7_travels_3 : List UInt8 := dkwX7_travels_3 ++ []
def dkwX7_travels_2 : List UInt8 := [27, 104, 96, 42, 180, 0, 7, 16, 84, 27, 96, 46, 96, 46, 79, 42, 180, 0, 7, 16, 84, 27, 96, 42]
abbrev dktX7_travels_2 : List UInt8 := dkwX7_travels_2 ++ dktX7_travels_3
def dkwX7_travels_1 : List UInt8 := [96, 46, 160, 0, 4, 177, 42, 180, 0, 7, 16, 12, 27, 96, 42, 180, 0, 7, 17, 0, 208, 17, 0, 144]
abbrev dktX7_travels_1 : List UInt8 := dkwX7_travels_1 ++ dktX7_travels_2
def dkwX7_travels_0 : List UInt8 := [42, 27, 182, 0, 119, 153, 0, 24, 42, 180, 0, 7, 16, 84, 27, 96, 46, 42, 180, 0, 7, 16, 96, 27]
abbrev dktX7_travels_0 : List UInt8 := dkwX7_travels_0 ++ dktX7_travels_1
theorem dksX7_travels_0 : cX7_travels.data.toList.drop 0 = dktX7_travels_0 := by decide +kernel
theorem dksX7_travels_1 : cX7_travels.data.toList.drop 24 = dktX7_travels_1 := dk_seg dksX7_travels_0 24 rfl rfl
theorem dksX7_travels_2 : cX7_travels.data.toList.drop 48 = dktX7_travels_2 := dk_seg dksX7_travels_1 24 rfl rfl
theorem dksX7_travels_3 : cX7_travels.data.toList.drop 72 = dktX7_travels_3 := dk_seg dksX7_travels_2 24 rfl rfl
theorem dX7_travels_0 : decode cX7_travels 0 = .ok (.aload_n 0, 1) := dk_42 (dk_at dksX7_travels_0 0 rfl rfl)
theorem dX7_travels_1 : decode cX7_travels 1 = .ok (.iload_n 1, 1) := dk_27 (dk_at dksX7_travels_0 1 rfl rfl)
theorem dX7_travels_2 : decode cX7_travels 2 = .ok (.invokevirtual 119, 3) := dk_182 0 119 (dk_at dksX7_travels_0 2 rfl rfl)
theorem dX7_travels_5 : decode cX7_travels 5 = .ok (.ifCond .eq 24, 3) := dk_153 0 24 (dk_at dksX7_travels_0 5 rfl rfl)
theorem dX7_travels_8 : decode cX7_travels 8 = .ok (.aload_n 0, 1) := dk_42 (dk_at dksX7_travels_0 8 rfl rfl)
theorem dX7_travels_9 : decode cX7_travels 9 = .ok (.getfield 7, 3) := dk_180 0 7 (dk_at dksX7_travels_0 9 rfl rfl)
theorem dX7_travels_12 : decode cX7_travels 12 = .ok (.bipush 84, 2) := dk_16 84 (dk_at dksX7_travels_0 12 rfl rfl)
theorem dX7_travels_14 : decode cX7_travels 14 = .ok (.iload_n 1, 1) := dk_27 (dk_at dksX7_travels_0 14 rfl rfl)
theorem dX7_travels_15 : decode cX7_travels 15 = .ok (.iadd, 1) := dk_96 (dk_at dksX7_travels_0 15 rfl rfl)
theorem dX7_travels_16 : decode cX7_travels 16 = .ok (.iaload, 1) := dk_46 (dk_at dksX7_travels_0 16 rfl rfl)
theorem dX7_travels_17 : decode cX7_travels 17 = .ok (.aload_n 0, 1) := dk_42 (dk_at dksX7_travels_0 17 rfl rfl)
theorem dX7_travels_18 : decode cX7_travels 18 = .ok (.getfield 7, 3) := dk_180 0 7 (dk_at dksX7_travels_0 18 rfl rfl)
theorem dX7_travels_21 : decode cX7_travels 21 = .ok (.bipush 96, 2) := dk_16 96 (dk_at dksX7_travels_0 21 rfl rfl)
theorem dX7_travels_23 : decode cX7_travels 23 = .ok (.iload_n 1, 1) := dk_27 (dk_at dksX7_travels_0 23 rfl rfl)
theorem dX7_travels_24 : decode cX7_travels 24 = .ok (.iadd, 1) := dk_96 (dk_at dksX7_travels_1 0 rfl rfl)
theorem dX7_travels_25 : decode cX7_travels 25 = .ok (.iaload, 1) := dk_46 (dk_at dksX7_travels_1 1 rfl rfl)
theorem dX7_travels_26 : decode cX7_travels 26 = .ok (.if_icmp .ne 4, 3) := dk_160 0 4 (dk_at dksX7_travels_1 2 rfl rfl)
theorem dX7_travels_29 : decode cX7_travels 29 = .ok (.return_, 1) := dk_177 (dk_at dksX7_travels_1 5 rfl rfl)
theorem dX7_travels_30 : decode cX7_travels 30 = .ok (.aload_n 0, 1) := dk_42 (dk_at dksX7_travels_1 6 rfl rfl)
theorem dX7_travels_31 : decode cX7_travels 31 = .ok (.getfield 7, 3) := dk_180 0 7 (dk_at dksX7_travels_1 7 rfl rfl)
theorem dX7_travels_34 : decode cX7_travels 34 = .ok (.bipush 12, 2) := dk_16 12 (dk_at dksX7_travels_1 10 rfl rfl)
theorem dX7_travels_36 : decode cX7_travels 36 = .ok (.iload_n 1, 1) := dk_27 (dk_at dksX7_travels_1 12 rfl rfl)
theorem dX7_travels_37 : decode cX7_travels 37 = .ok (.iadd, 1) := dk_96 (dk_at dksX7_travels_1 13 rfl rfl)
theorem dX7_travels_38 : decode cX7_travels 38 = .ok (.aload_n 0, 1) := dk_42 (dk_at dksX7_travels_1 14 rfl rfl)
theorem dX7_travels_39 : decode cX7_travels 39 = .ok (.getfield 7, 3) := dk_180 0 7 (dk_at dksX7_travels_1 15 rfl rfl)
theorem dX7_travels_42 : decode cX7_travels 42 = .ok (.sipush 208, 3) := dk_17 0 208 (dk_at dksX7_travels_1 18 rfl rfl)
theorem dX7_travels_45 : decode cX7_travels 45 = .ok (.sipush 144, 3) := dk_17 0 144 (dk_at dksX7_travels_1 21 rfl rfl)
theorem dX7_travels_48 : decode cX7_travels 48 = .ok (.iload_n 1, 1) := dk_27 (dk_at dksX7_travels_2 0 rfl rfl)
theorem dX7_travels_49 : decode cX7_travels 49 = .ok (.imul, 1) := dk_104 (dk_at dksX7_travels_2 1 rfl rfl)
theorem dX7_travels_50 : decode cX7_travels 50 = .ok (.iadd, 1) := dk_96 (dk_at dksX7_travels_2 2 rfl rfl)
theorem dX7_travels_51 : decode cX7_travels 51 = .ok (.aload_n 0, 1) := dk_42 (dk_at dksX7_travels_2 3 rfl rfl)
theorem dX7_travels_52 : decode cX7_travels 52 = .ok (.getfield 7, 3) := dk_180 0 7 (dk_at dksX7_travels_2 4 rfl rfl)
theorem dX7_travels_55 : decode cX7_travels 55 = .ok (.bipush 84, 2) := dk_16 84 (dk_at dksX7_travels_2 7 rfl rfl)
theorem dX7_travels_57 : decode cX7_travels 57 = .ok (.iload_n 1, 1) := dk_27 (dk_at dksX7_travels_2 9 rfl rfl)
theorem dX7_travels_58 : decode cX7_travels 58 = .ok (.iadd, 1) := dk_96 (dk_at dksX7_travels_2 10 rfl rfl)
theorem dX7_travels_59 : decode cX7_travels 59 = .ok (.iaload, 1) := dk_46 (dk_at dksX7_travels_2 11 rfl rfl)
theorem dX7_travels_60 : decode cX7_travels 60 = .ok (.iadd, 1) := dk_96 (dk_at dksX7_travels_2 12 rfl rfl)
theorem dX7_travels_61 : decode cX7_travels 61 = .ok (.iaload, 1) := dk_46 (dk_at dksX7_travels_2 13 rfl rfl)
theorem dX7_travels_62 : decode cX7_travels 62 = .ok (.iastore, 1) := dk_79 (dk_at dksX7_travels_2 14 rfl rfl)
theorem dX7_travels_63 : decode cX7_travels 63 = .ok (.aload_n 0, 1) := dk_42 (dk_at dksX7_travels_2 15 rfl rfl)
theorem dX7_travels_64 : decode cX7_travels 64 = .ok (.getfield 7, 3) := dk_180 0 7 (dk_at dksX7_travels_2 16 rfl rfl)
theorem dX7_travels_67 : decode cX7_travels 67 = .ok (.bipush 84, 2) := dk_16 84 (dk_at dksX7_travels_2 19 rfl rfl)
theorem dX7_travels_69 : decode cX7_travels 69 = .ok (.iload_n 1, 1) := dk_27 (dk_at dksX7_travels_2 21 rfl rfl)
theorem dX7_travels_70 : decode cX7_travels 70 = .ok (.iadd, 1) := dk_96 (dk_at dksX7_travels_2 22 rfl rfl)
theorem dX7_travels_71 : decode cX7_travels 71 = .ok (.aload_n 0, 1) := dk_42 (dk_at dksX7_travels_2 23 rfl rfl)
theorem dX7_travels_72 : decode cX7_travels 72 = .ok (.getfield 7, 3) := dk_180 0 7 (dk_at dksX7_travels_3 0 rfl rfl)
theorem dX7_travels_75 : decode cX7_travels 75 = .ok (.bipush 84, 2) := dk_16 84 (dk_at dksX7_travels_3 3 rfl rfl)
theorem dX7_travels_77 : decode cX7_travels 77 = .ok (.iload_n 1, 1) := dk_27 (dk_at dksX7_travels_3 5 rfl rfl)
theorem dX7_travels_78 : decode cX7_travels 78 = .ok (.iadd, 1) := dk_96 (dk_at dksX7_travels_3 6 rfl rfl)
theorem dX7_travels_79 : decode cX7_travels 79 = .ok (.iaload, 1) := dk_46 (dk_at dksX7_travels_3 7 rfl rfl)
theorem dX7_travels_80 : decode cX7_travels 80 = .ok (.iconst 1, 1) := dk_4 (dk_at dksX7_travels_3 8 rfl rfl)
theorem dX7_travels_81 : decode cX7_travels 81 = .ok (.iadd, 1) := dk_96 (dk_at dksX7_travels_3 9 rfl rfl)
theorem dX7_travels_82 : decode cX7_travels 82 = .ok (.iastore, 1) := dk_79 (dk_at dksX7_travels_3 10 rfl rfl)
theorem dX7_travels_83 : decode cX7_travels 83 = .ok (.return_, 1) := dk_177 (dk_at dksX7_travels_3 11 rfl rfl)
abbrev cX7_triesIn : ByteArray := prog_21_method_61_code
def yX7_triesIn : MethodName := ⟨RX7, "triesIn", "(II)V"⟩
def dkwX7_triesIn_7 : List UInt8 := [182, 1, 39, 177]
abbrev dktX7_triesIn_7 : List UInt8 := dkwX7_triesIn_7 ++ []
def dkwX7_triesIn_6 : List UInt8 := [96, 181, 1, 33, 177, 42, 28, 29, 182, 1, 36, 54, 4, 42, 28, 21, 4, 182, 1, 39, 42, 29, 21, 4]
abbrev dktX7_triesIn_6 : List UInt8 := dkwX7_triesIn_6 ++ dktX7_triesIn_7
def dkwX7_triesIn_5 : List UInt8 := [182, 1, 27, 42, 28, 29, 182, 1, 30, 153, 0, 20, 42, 28, 29, 182, 0, 122, 42, 42, 180, 1, 33, 4]
abbrev dktX7_triesIn_5 : List UInt8 := dkwX7_triesIn_5 ++ dktX7_triesIn_6
def dkwX7_triesIn_4 : List UInt8 := [167, 255, 197, 29, 16, 12, 160, 0, 4, 177, 42, 42, 180, 1, 24, 4, 96, 181, 1, 24, 42, 28, 29]
abbrev dktX7_triesIn_4 : List UInt8 := dkwX7_triesIn_4 ++ dktX7_triesIn_5
def dkwX7_triesIn_3 : List UInt8 := [27, 160, 0, 19, 42, 180, 0, 7, 16, 60, 28, 96, 46, 29, 184, 0, 101, 153, 0, 10, 29, 4, 96, 62]
abbrev dktX7_triesIn_3 : List UInt8 := dkwX7_triesIn_3 ++ dktX7_triesIn_4
def dkwX7_triesIn_2 : List UInt8 := [153, 0, 44, 42, 180, 0, 7, 3, 29, 96, 46, 4, 160, 0, 32, 42, 180, 0, 7, 16, 12, 29, 96, 46]
abbrev dktX7_triesIn_2 : List UInt8 := dkwX7_triesIn_2 ++ dktX7_triesIn_3
def dkwX7_triesIn_1 : List UInt8 := [16, 12, 28, 96, 46, 27, 159, 0, 4, 177, 3, 62, 29, 16, 12, 162, 0, 59, 42, 29, 182, 0, 119]
abbrev dktX7_triesIn_1 : List UInt8 := dkwX7_triesIn_1 ++ dktX7_triesIn_2
def dkwX7_triesIn_0 : List UInt8 := [42, 28, 182, 0, 119, 153, 0, 27, 42, 180, 0, 7, 3, 28, 96, 46, 154, 0, 16, 42, 180, 0, 7]
abbrev dktX7_triesIn_0 : List UInt8 := dkwX7_triesIn_0 ++ dktX7_triesIn_1
theorem dksX7_triesIn_0 : cX7_triesIn.data.toList.drop 0 = dktX7_triesIn_0 := by decide +kernel
theorem dksX7_triesIn_1 : cX7_triesIn.data.toList.drop 23 = dktX7_triesIn_1 := dk_seg dksX7_triesIn_0 23 rfl rfl
theorem dksX7_triesIn_2 : cX7_triesIn.data.toList.drop 46 = dktX7_triesIn_2 := dk_seg dksX7_triesIn_1 23 rfl rfl
theorem dksX7_triesIn_3 : cX7_triesIn.data.toList.drop 70 = dktX7_triesIn_3 := dk_seg dksX7_triesIn_2 24 rfl rfl
theorem dksX7_triesIn_4 : cX7_triesIn.data.toList.drop 94 = dktX7_triesIn_4 := dk_seg dksX7_triesIn_3 24 rfl rfl
theorem dksX7_triesIn_5 : cX7_triesIn.data.toList.drop 117 = dktX7_triesIn_5 := dk_seg dksX7_triesIn_4 23 rfl rfl
theorem dksX7_triesIn_6 : cX7_triesIn.data.toList.drop 141 = dktX7_triesIn_6 := dk_seg dksX7_triesIn_5 24 rfl rfl
theorem dksX7_triesIn_7 : cX7_triesIn.data.toList.drop 165 = dktX7_triesIn_7 := dk_seg dksX7_triesIn_6 24 rfl rfl
theorem dX7_triesIn_0 : decode cX7_triesIn 0 = .ok (.aload_n 0, 1) := dk_42 (dk_at dksX7_triesIn_0 0 rfl rfl)
theorem dX7_triesIn_1 : decode cX7_triesIn 1 = .ok (.iload_n 2, 1) := dk_28 (dk_at dksX7_triesIn_0 1 rfl rfl)
theorem dX7_triesIn_2 : decode cX7_triesIn 2 = .ok (.invokevirtual 119, 3) := dk_182 0 119 (dk_at dksX7_triesIn_0 2 rfl rfl)
theorem dX7_triesIn_5 : decode cX7_triesIn 5 = .ok (.ifCond .eq 27, 3) := dk_153 0 27 (dk_at dksX7_triesIn_0 5 rfl rfl)
theorem dX7_triesIn_8 : decode cX7_triesIn 8 = .ok (.aload_n 0, 1) := dk_42 (dk_at dksX7_triesIn_0 8 rfl rfl)
theorem dX7_triesIn_9 : decode cX7_triesIn 9 = .ok (.getfield 7, 3) := dk_180 0 7 (dk_at dksX7_triesIn_0 9 rfl rfl)
theorem dX7_triesIn_12 : decode cX7_triesIn 12 = .ok (.iconst 0, 1) := dk_3 (dk_at dksX7_triesIn_0 12 rfl rfl)
theorem dX7_triesIn_13 : decode cX7_triesIn 13 = .ok (.iload_n 2, 1) := dk_28 (dk_at dksX7_triesIn_0 13 rfl rfl)
theorem dX7_triesIn_14 : decode cX7_triesIn 14 = .ok (.iadd, 1) := dk_96 (dk_at dksX7_triesIn_0 14 rfl rfl)
theorem dX7_triesIn_15 : decode cX7_triesIn 15 = .ok (.iaload, 1) := dk_46 (dk_at dksX7_triesIn_0 15 rfl rfl)
theorem dX7_triesIn_16 : decode cX7_triesIn 16 = .ok (.ifCond .ne 16, 3) := dk_154 0 16 (dk_at dksX7_triesIn_0 16 rfl rfl)
theorem dX7_triesIn_19 : decode cX7_triesIn 19 = .ok (.aload_n 0, 1) := dk_42 (dk_at dksX7_triesIn_0 19 rfl rfl)
theorem dX7_triesIn_20 : decode cX7_triesIn 20 = .ok (.getfield 7, 3) := dk_180 0 7 (dk_at dksX7_triesIn_0 20 rfl rfl)
theorem dX7_triesIn_23 : decode cX7_triesIn 23 = .ok (.bipush 12, 2) := dk_16 12 (dk_at dksX7_triesIn_1 0 rfl rfl)
theorem dX7_triesIn_25 : decode cX7_triesIn 25 = .ok (.iload_n 2, 1) := dk_28 (dk_at dksX7_triesIn_1 2 rfl rfl)
theorem dX7_triesIn_26 : decode cX7_triesIn 26 = .ok (.iadd, 1) := dk_96 (dk_at dksX7_triesIn_1 3 rfl rfl)
theorem dX7_triesIn_27 : decode cX7_triesIn 27 = .ok (.iaload, 1) := dk_46 (dk_at dksX7_triesIn_1 4 rfl rfl)
theorem dX7_triesIn_28 : decode cX7_triesIn 28 = .ok (.iload_n 1, 1) := dk_27 (dk_at dksX7_triesIn_1 5 rfl rfl)
theorem dX7_triesIn_29 : decode cX7_triesIn 29 = .ok (.if_icmp .eq 4, 3) := dk_159 0 4 (dk_at dksX7_triesIn_1 6 rfl rfl)
theorem dX7_triesIn_32 : decode cX7_triesIn 32 = .ok (.return_, 1) := dk_177 (dk_at dksX7_triesIn_1 9 rfl rfl)
theorem dX7_triesIn_33 : decode cX7_triesIn 33 = .ok (.iconst 0, 1) := dk_3 (dk_at dksX7_triesIn_1 10 rfl rfl)
theorem dX7_triesIn_34 : decode cX7_triesIn 34 = .ok (.istore_n 3, 1) := dk_62 (dk_at dksX7_triesIn_1 11 rfl rfl)
theorem dX7_triesIn_35 : decode cX7_triesIn 35 = .ok (.iload_n 3, 1) := dk_29 (dk_at dksX7_triesIn_1 12 rfl rfl)
theorem dX7_triesIn_36 : decode cX7_triesIn 36 = .ok (.bipush 12, 2) := dk_16 12 (dk_at dksX7_triesIn_1 13 rfl rfl)
theorem dX7_triesIn_38 : decode cX7_triesIn 38 = .ok (.if_icmp .ge 59, 3) := dk_162 0 59 (dk_at dksX7_triesIn_1 15 rfl rfl)
theorem dX7_triesIn_41 : decode cX7_triesIn 41 = .ok (.aload_n 0, 1) := dk_42 (dk_at dksX7_triesIn_1 18 rfl rfl)
theorem dX7_triesIn_42 : decode cX7_triesIn 42 = .ok (.iload_n 3, 1) := dk_29 (dk_at dksX7_triesIn_1 19 rfl rfl)
theorem dX7_triesIn_43 : decode cX7_triesIn 43 = .ok (.invokevirtual 119, 3) := dk_182 0 119 (dk_at dksX7_triesIn_1 20 rfl rfl)
theorem dX7_triesIn_46 : decode cX7_triesIn 46 = .ok (.ifCond .eq 44, 3) := dk_153 0 44 (dk_at dksX7_triesIn_2 0 rfl rfl)
theorem dX7_triesIn_49 : decode cX7_triesIn 49 = .ok (.aload_n 0, 1) := dk_42 (dk_at dksX7_triesIn_2 3 rfl rfl)
theorem dX7_triesIn_50 : decode cX7_triesIn 50 = .ok (.getfield 7, 3) := dk_180 0 7 (dk_at dksX7_triesIn_2 4 rfl rfl)
theorem dX7_triesIn_53 : decode cX7_triesIn 53 = .ok (.iconst 0, 1) := dk_3 (dk_at dksX7_triesIn_2 7 rfl rfl)
theorem dX7_triesIn_54 : decode cX7_triesIn 54 = .ok (.iload_n 3, 1) := dk_29 (dk_at dksX7_triesIn_2 8 rfl rfl)
theorem dX7_triesIn_55 : decode cX7_triesIn 55 = .ok (.iadd, 1) := dk_96 (dk_at dksX7_triesIn_2 9 rfl rfl)
theorem dX7_triesIn_56 : decode cX7_triesIn 56 = .ok (.iaload, 1) := dk_46 (dk_at dksX7_triesIn_2 10 rfl rfl)
theorem dX7_triesIn_57 : decode cX7_triesIn 57 = .ok (.iconst 1, 1) := dk_4 (dk_at dksX7_triesIn_2 11 rfl rfl)
theorem dX7_triesIn_58 : decode cX7_triesIn 58 = .ok (.if_icmp .ne 32, 3) := dk_160 0 32 (dk_at dksX7_triesIn_2 12 rfl rfl)
theorem dX7_triesIn_61 : decode cX7_triesIn 61 = .ok (.aload_n 0, 1) := dk_42 (dk_at dksX7_triesIn_2 15 rfl rfl)
theorem dX7_triesIn_62 : decode cX7_triesIn 62 = .ok (.getfield 7, 3) := dk_180 0 7 (dk_at dksX7_triesIn_2 16 rfl rfl)
theorem dX7_triesIn_65 : decode cX7_triesIn 65 = .ok (.bipush 12, 2) := dk_16 12 (dk_at dksX7_triesIn_2 19 rfl rfl)
theorem dX7_triesIn_67 : decode cX7_triesIn 67 = .ok (.iload_n 3, 1) := dk_29 (dk_at dksX7_triesIn_2 21 rfl rfl)
theorem dX7_triesIn_68 : decode cX7_triesIn 68 = .ok (.iadd, 1) := dk_96 (dk_at dksX7_triesIn_2 22 rfl rfl)
theorem dX7_triesIn_69 : decode cX7_triesIn 69 = .ok (.iaload, 1) := dk_46 (dk_at dksX7_triesIn_2 23 rfl rfl)
theorem dX7_triesIn_70 : decode cX7_triesIn 70 = .ok (.iload_n 1, 1) := dk_27 (dk_at dksX7_triesIn_3 0 rfl rfl)
theorem dX7_triesIn_71 : decode cX7_triesIn 71 = .ok (.if_icmp .ne 19, 3) := dk_160 0 19 (dk_at dksX7_triesIn_3 1 rfl rfl)
theorem dX7_triesIn_74 : decode cX7_triesIn 74 = .ok (.aload_n 0, 1) := dk_42 (dk_at dksX7_triesIn_3 4 rfl rfl)
theorem dX7_triesIn_75 : decode cX7_triesIn 75 = .ok (.getfield 7, 3) := dk_180 0 7 (dk_at dksX7_triesIn_3 5 rfl rfl)
theorem dX7_triesIn_78 : decode cX7_triesIn 78 = .ok (.bipush 60, 2) := dk_16 60 (dk_at dksX7_triesIn_3 8 rfl rfl)
theorem dX7_triesIn_80 : decode cX7_triesIn 80 = .ok (.iload_n 2, 1) := dk_28 (dk_at dksX7_triesIn_3 10 rfl rfl)
theorem dX7_triesIn_81 : decode cX7_triesIn 81 = .ok (.iadd, 1) := dk_96 (dk_at dksX7_triesIn_3 11 rfl rfl)
theorem dX7_triesIn_82 : decode cX7_triesIn 82 = .ok (.iaload, 1) := dk_46 (dk_at dksX7_triesIn_3 12 rfl rfl)
theorem dX7_triesIn_83 : decode cX7_triesIn 83 = .ok (.iload_n 3, 1) := dk_29 (dk_at dksX7_triesIn_3 13 rfl rfl)
theorem dX7_triesIn_84 : decode cX7_triesIn 84 = .ok (.invokestatic 101, 3) := dk_184 0 101 (dk_at dksX7_triesIn_3 14 rfl rfl)
theorem dX7_triesIn_87 : decode cX7_triesIn 87 = .ok (.ifCond .eq 10, 3) := dk_153 0 10 (dk_at dksX7_triesIn_3 17 rfl rfl)
theorem dX7_triesIn_90 : decode cX7_triesIn 90 = .ok (.iload_n 3, 1) := dk_29 (dk_at dksX7_triesIn_3 20 rfl rfl)
theorem dX7_triesIn_91 : decode cX7_triesIn 91 = .ok (.iconst 1, 1) := dk_4 (dk_at dksX7_triesIn_3 21 rfl rfl)
theorem dX7_triesIn_92 : decode cX7_triesIn 92 = .ok (.iadd, 1) := dk_96 (dk_at dksX7_triesIn_3 22 rfl rfl)
theorem dX7_triesIn_93 : decode cX7_triesIn 93 = .ok (.istore_n 3, 1) := dk_62 (dk_at dksX7_triesIn_3 23 rfl rfl)
theorem dX7_triesIn_94 : decode cX7_triesIn 94 = .ok (.goto (-59), 3) := dk_167 255 197 (dk_at dksX7_triesIn_4 0 rfl rfl)
theorem dX7_triesIn_97 : decode cX7_triesIn 97 = .ok (.iload_n 3, 1) := dk_29 (dk_at dksX7_triesIn_4 3 rfl rfl)
theorem dX7_triesIn_98 : decode cX7_triesIn 98 = .ok (.bipush 12, 2) := dk_16 12 (dk_at dksX7_triesIn_4 4 rfl rfl)
theorem dX7_triesIn_100 : decode cX7_triesIn 100 = .ok (.if_icmp .ne 4, 3) := dk_160 0 4 (dk_at dksX7_triesIn_4 6 rfl rfl)
theorem dX7_triesIn_103 : decode cX7_triesIn 103 = .ok (.return_, 1) := dk_177 (dk_at dksX7_triesIn_4 9 rfl rfl)
theorem dX7_triesIn_104 : decode cX7_triesIn 104 = .ok (.aload_n 0, 1) := dk_42 (dk_at dksX7_triesIn_4 10 rfl rfl)
theorem dX7_triesIn_105 : decode cX7_triesIn 105 = .ok (.aload_n 0, 1) := dk_42 (dk_at dksX7_triesIn_4 11 rfl rfl)
theorem dX7_triesIn_106 : decode cX7_triesIn 106 = .ok (.getfield 280, 3) := dk_180 1 24 (dk_at dksX7_triesIn_4 12 rfl rfl)
theorem dX7_triesIn_109 : decode cX7_triesIn 109 = .ok (.iconst 1, 1) := dk_4 (dk_at dksX7_triesIn_4 15 rfl rfl)
theorem dX7_triesIn_110 : decode cX7_triesIn 110 = .ok (.iadd, 1) := dk_96 (dk_at dksX7_triesIn_4 16 rfl rfl)
theorem dX7_triesIn_111 : decode cX7_triesIn 111 = .ok (.putfield 280, 3) := dk_181 1 24 (dk_at dksX7_triesIn_4 17 rfl rfl)
theorem dX7_triesIn_114 : decode cX7_triesIn 114 = .ok (.aload_n 0, 1) := dk_42 (dk_at dksX7_triesIn_4 20 rfl rfl)
theorem dX7_triesIn_115 : decode cX7_triesIn 115 = .ok (.iload_n 2, 1) := dk_28 (dk_at dksX7_triesIn_4 21 rfl rfl)
theorem dX7_triesIn_116 : decode cX7_triesIn 116 = .ok (.iload_n 3, 1) := dk_29 (dk_at dksX7_triesIn_4 22 rfl rfl)
theorem dX7_triesIn_117 : decode cX7_triesIn 117 = .ok (.invokevirtual 283, 3) := dk_182 1 27 (dk_at dksX7_triesIn_5 0 rfl rfl)
theorem dX7_triesIn_120 : decode cX7_triesIn 120 = .ok (.aload_n 0, 1) := dk_42 (dk_at dksX7_triesIn_5 3 rfl rfl)
theorem dX7_triesIn_121 : decode cX7_triesIn 121 = .ok (.iload_n 2, 1) := dk_28 (dk_at dksX7_triesIn_5 4 rfl rfl)
theorem dX7_triesIn_122 : decode cX7_triesIn 122 = .ok (.iload_n 3, 1) := dk_29 (dk_at dksX7_triesIn_5 5 rfl rfl)
theorem dX7_triesIn_123 : decode cX7_triesIn 123 = .ok (.invokevirtual 286, 3) := dk_182 1 30 (dk_at dksX7_triesIn_5 6 rfl rfl)
theorem dX7_triesIn_126 : decode cX7_triesIn 126 = .ok (.ifCond .eq 20, 3) := dk_153 0 20 (dk_at dksX7_triesIn_5 9 rfl rfl)
theorem dX7_triesIn_129 : decode cX7_triesIn 129 = .ok (.aload_n 0, 1) := dk_42 (dk_at dksX7_triesIn_5 12 rfl rfl)
theorem dX7_triesIn_130 : decode cX7_triesIn 130 = .ok (.iload_n 2, 1) := dk_28 (dk_at dksX7_triesIn_5 13 rfl rfl)
theorem dX7_triesIn_131 : decode cX7_triesIn 131 = .ok (.iload_n 3, 1) := dk_29 (dk_at dksX7_triesIn_5 14 rfl rfl)
theorem dX7_triesIn_132 : decode cX7_triesIn 132 = .ok (.invokevirtual 122, 3) := dk_182 0 122 (dk_at dksX7_triesIn_5 15 rfl rfl)
theorem dX7_triesIn_135 : decode cX7_triesIn 135 = .ok (.aload_n 0, 1) := dk_42 (dk_at dksX7_triesIn_5 18 rfl rfl)
theorem dX7_triesIn_136 : decode cX7_triesIn 136 = .ok (.aload_n 0, 1) := dk_42 (dk_at dksX7_triesIn_5 19 rfl rfl)
theorem dX7_triesIn_137 : decode cX7_triesIn 137 = .ok (.getfield 289, 3) := dk_180 1 33 (dk_at dksX7_triesIn_5 20 rfl rfl)
theorem dX7_triesIn_140 : decode cX7_triesIn 140 = .ok (.iconst 1, 1) := dk_4 (dk_at dksX7_triesIn_5 23 rfl rfl)
theorem dX7_triesIn_141 : decode cX7_triesIn 141 = .ok (.iadd, 1) := dk_96 (dk_at dksX7_triesIn_6 0 rfl rfl)
theorem dX7_triesIn_142 : decode cX7_triesIn 142 = .ok (.putfield 289, 3) := dk_181 1 33 (dk_at dksX7_triesIn_6 1 rfl rfl)
theorem dX7_triesIn_145 : decode cX7_triesIn 145 = .ok (.return_, 1) := dk_177 (dk_at dksX7_triesIn_6 4 rfl rfl)
theorem dX7_triesIn_146 : decode cX7_triesIn 146 = .ok (.aload_n 0, 1) := dk_42 (dk_at dksX7_triesIn_6 5 rfl rfl)
theorem dX7_triesIn_147 : decode cX7_triesIn 147 = .ok (.iload_n 2, 1) := dk_28 (dk_at dksX7_triesIn_6 6 rfl rfl)
theorem dX7_triesIn_148 : decode cX7_triesIn 148 = .ok (.iload_n 3, 1) := dk_29 (dk_at dksX7_triesIn_6 7 rfl rfl)
theorem dX7_triesIn_149 : decode cX7_triesIn 149 = .ok (.invokevirtual 292, 3) := dk_182 1 36 (dk_at dksX7_triesIn_6 8 rfl rfl)
theorem dX7_triesIn_152 : decode cX7_triesIn 152 = .ok (.istore 4, 2) := dk_54 4 (dk_at dksX7_triesIn_6 11 rfl rfl)
theorem dX7_triesIn_154 : decode cX7_triesIn 154 = .ok (.aload_n 0, 1) := dk_42 (dk_at dksX7_triesIn_6 13 rfl rfl)
theorem dX7_triesIn_155 : decode cX7_triesIn 155 = .ok (.iload_n 2, 1) := dk_28 (dk_at dksX7_triesIn_6 14 rfl rfl)
theorem dX7_triesIn_156 : decode cX7_triesIn 156 = .ok (.iload 4, 2) := dk_21 4 (dk_at dksX7_triesIn_6 15 rfl rfl)
theorem dX7_triesIn_158 : decode cX7_triesIn 158 = .ok (.invokevirtual 295, 3) := dk_182 1 39 (dk_at dksX7_triesIn_6 17 rfl rfl)
theorem dX7_triesIn_161 : decode cX7_triesIn 161 = .ok (.aload_n 0, 1) := dk_42 (dk_at dksX7_triesIn_6 20 rfl rfl)
theorem dX7_triesIn_162 : decode cX7_triesIn 162 = .ok (.iload_n 3, 1) := dk_29 (dk_at dksX7_triesIn_6 21 rfl rfl)
theorem dX7_triesIn_163 : decode cX7_triesIn 163 = .ok (.iload 4, 2) := dk_21 4 (dk_at dksX7_triesIn_6 22 rfl rfl)
theorem dX7_triesIn_165 : decode cX7_triesIn 165 = .ok (.invokevirtual 295, 3) := dk_182 1 39 (dk_at dksX7_triesIn_7 0 rfl rfl)
theorem dX7_triesIn_168 : decode cX7_triesIn 168 = .ok (.return_, 1) := dk_177 (dk_at dksX7_triesIn_7 3 rfl rfl)
abbrev cX7_haveTried : ByteArray := prog_21_method_59_code
def yX7_haveTried : MethodName := ⟨RX7, "haveTried", "(II)V"⟩
def dkwX7_haveTried_1 : List UInt8 := [180, 0, 7, 16, 60, 28, 96, 42, 180, 0, 7, 16, 60, 28, 96, 46, 4, 27, 120, 128, 79, 177]
abbrev dktX7_haveTried_1 : List UInt8 := dkwX7_haveTried_1 ++ []
def dkwX7_haveTried_0 : List UInt8 := [42, 180, 0, 7, 16, 60, 27, 96, 42, 180, 0, 7, 16, 60, 27, 96, 46, 4, 28, 120, 128, 79, 42]
abbrev dktX7_haveTried_0 : List UInt8 := dkwX7_haveTried_0 ++ dktX7_haveTried_1
theorem dksX7_haveTried_0 : cX7_haveTried.data.toList.drop 0 = dktX7_haveTried_0 := by decide +kernel
theorem dksX7_haveTried_1 : cX7_haveTried.data.toList.drop 23 = dktX7_haveTried_1 := dk_seg dksX7_haveTried_0 23 rfl rfl
theorem dX7_haveTried_0 : decode cX7_haveTried 0 = .ok (.aload_n 0, 1) := dk_42 (dk_at dksX7_haveTried_0 0 rfl rfl)
theorem dX7_haveTried_1 : decode cX7_haveTried 1 = .ok (.getfield 7, 3) := dk_180 0 7 (dk_at dksX7_haveTried_0 1 rfl rfl)
theorem dX7_haveTried_4 : decode cX7_haveTried 4 = .ok (.bipush 60, 2) := dk_16 60 (dk_at dksX7_haveTried_0 4 rfl rfl)
theorem dX7_haveTried_6 : decode cX7_haveTried 6 = .ok (.iload_n 1, 1) := dk_27 (dk_at dksX7_haveTried_0 6 rfl rfl)
theorem dX7_haveTried_7 : decode cX7_haveTried 7 = .ok (.iadd, 1) := dk_96 (dk_at dksX7_haveTried_0 7 rfl rfl)
theorem dX7_haveTried_8 : decode cX7_haveTried 8 = .ok (.aload_n 0, 1) := dk_42 (dk_at dksX7_haveTried_0 8 rfl rfl)
theorem dX7_haveTried_9 : decode cX7_haveTried 9 = .ok (.getfield 7, 3) := dk_180 0 7 (dk_at dksX7_haveTried_0 9 rfl rfl)
theorem dX7_haveTried_12 : decode cX7_haveTried 12 = .ok (.bipush 60, 2) := dk_16 60 (dk_at dksX7_haveTried_0 12 rfl rfl)
theorem dX7_haveTried_14 : decode cX7_haveTried 14 = .ok (.iload_n 1, 1) := dk_27 (dk_at dksX7_haveTried_0 14 rfl rfl)
theorem dX7_haveTried_15 : decode cX7_haveTried 15 = .ok (.iadd, 1) := dk_96 (dk_at dksX7_haveTried_0 15 rfl rfl)
theorem dX7_haveTried_16 : decode cX7_haveTried 16 = .ok (.iaload, 1) := dk_46 (dk_at dksX7_haveTried_0 16 rfl rfl)
theorem dX7_haveTried_17 : decode cX7_haveTried 17 = .ok (.iconst 1, 1) := dk_4 (dk_at dksX7_haveTried_0 17 rfl rfl)
theorem dX7_haveTried_18 : decode cX7_haveTried 18 = .ok (.iload_n 2, 1) := dk_28 (dk_at dksX7_haveTried_0 18 rfl rfl)
theorem dX7_haveTried_19 : decode cX7_haveTried 19 = .ok (.ishl, 1) := dk_120 (dk_at dksX7_haveTried_0 19 rfl rfl)
theorem dX7_haveTried_20 : decode cX7_haveTried 20 = .ok (.ior, 1) := dk_128 (dk_at dksX7_haveTried_0 20 rfl rfl)
theorem dX7_haveTried_21 : decode cX7_haveTried 21 = .ok (.iastore, 1) := dk_79 (dk_at dksX7_haveTried_0 21 rfl rfl)
theorem dX7_haveTried_22 : decode cX7_haveTried 22 = .ok (.aload_n 0, 1) := dk_42 (dk_at dksX7_haveTried_0 22 rfl rfl)
theorem dX7_haveTried_23 : decode cX7_haveTried 23 = .ok (.getfield 7, 3) := dk_180 0 7 (dk_at dksX7_haveTried_1 0 rfl rfl)
theorem dX7_haveTried_26 : decode cX7_haveTried 26 = .ok (.bipush 60, 2) := dk_16 60 (dk_at dksX7_haveTried_1 3 rfl rfl)
theorem dX7_haveTried_28 : decode cX7_haveTried 28 = .ok (.iload_n 2, 1) := dk_28 (dk_at dksX7_haveTried_1 5 rfl rfl)
theorem dX7_haveTried_29 : decode cX7_haveTried 29 = .ok (.iadd, 1) := dk_96 (dk_at dksX7_haveTried_1 6 rfl rfl)
theorem dX7_haveTried_30 : decode cX7_haveTried 30 = .ok (.aload_n 0, 1) := dk_42 (dk_at dksX7_haveTried_1 7 rfl rfl)
theorem dX7_haveTried_31 : decode cX7_haveTried 31 = .ok (.getfield 7, 3) := dk_180 0 7 (dk_at dksX7_haveTried_1 8 rfl rfl)
theorem dX7_haveTried_34 : decode cX7_haveTried 34 = .ok (.bipush 60, 2) := dk_16 60 (dk_at dksX7_haveTried_1 11 rfl rfl)
theorem dX7_haveTried_36 : decode cX7_haveTried 36 = .ok (.iload_n 2, 1) := dk_28 (dk_at dksX7_haveTried_1 13 rfl rfl)
theorem dX7_haveTried_37 : decode cX7_haveTried 37 = .ok (.iadd, 1) := dk_96 (dk_at dksX7_haveTried_1 14 rfl rfl)
theorem dX7_haveTried_38 : decode cX7_haveTried 38 = .ok (.iaload, 1) := dk_46 (dk_at dksX7_haveTried_1 15 rfl rfl)
theorem dX7_haveTried_39 : decode cX7_haveTried 39 = .ok (.iconst 1, 1) := dk_4 (dk_at dksX7_haveTried_1 16 rfl rfl)
theorem dX7_haveTried_40 : decode cX7_haveTried 40 = .ok (.iload_n 1, 1) := dk_27 (dk_at dksX7_haveTried_1 17 rfl rfl)
theorem dX7_haveTried_41 : decode cX7_haveTried 41 = .ok (.ishl, 1) := dk_120 (dk_at dksX7_haveTried_1 18 rfl rfl)
theorem dX7_haveTried_42 : decode cX7_haveTried 42 = .ok (.ior, 1) := dk_128 (dk_at dksX7_haveTried_1 19 rfl rfl)
theorem dX7_haveTried_43 : decode cX7_haveTried 43 = .ok (.iastore, 1) := dk_79 (dk_at dksX7_haveTried_1 20 rfl rfl)
theorem dX7_haveTried_44 : decode cX7_haveTried 44 = .ok (.return_, 1) := dk_177 (dk_at dksX7_haveTried_1 21 rfl rfl)
abbrev cX7_fit : ByteArray := prog_21_method_51_code
def yX7_fit : MethodName := ⟨RX7, "fit", "(II)Z"⟩
def dkwX7_fit_1 : List UInt8 := [167, 0, 4, 3, 172]
abbrev dktX7_fit_1 : List UInt8 := dkwX7_fit_1 ++ []
def dkwX7_fit_0 : List UInt8 := [42, 27, 28, 182, 1, 6, 62, 29, 2, 159, 0, 17, 29, 42, 27, 28, 182, 1, 9, 163, 0, 7, 4]
abbrev dktX7_fit_0 : List UInt8 := dkwX7_fit_0 ++ dktX7_fit_1
theorem dksX7_fit_0 : cX7_fit.data.toList.drop 0 = dktX7_fit_0 := by decide +kernel
theorem dksX7_fit_1 : cX7_fit.data.toList.drop 23 = dktX7_fit_1 := dk_seg dksX7_fit_0 23 rfl rfl
theorem dX7_fit_0 : decode cX7_fit 0 = .ok (.aload_n 0, 1) := dk_42 (dk_at dksX7_fit_0 0 rfl rfl)
theorem dX7_fit_1 : decode cX7_fit 1 = .ok (.iload_n 1, 1) := dk_27 (dk_at dksX7_fit_0 1 rfl rfl)
theorem dX7_fit_2 : decode cX7_fit 2 = .ok (.iload_n 2, 1) := dk_28 (dk_at dksX7_fit_0 2 rfl rfl)
theorem dX7_fit_3 : decode cX7_fit 3 = .ok (.invokevirtual 262, 3) := dk_182 1 6 (dk_at dksX7_fit_0 3 rfl rfl)
theorem dX7_fit_6 : decode cX7_fit 6 = .ok (.istore_n 3, 1) := dk_62 (dk_at dksX7_fit_0 6 rfl rfl)
theorem dX7_fit_7 : decode cX7_fit 7 = .ok (.iload_n 3, 1) := dk_29 (dk_at dksX7_fit_0 7 rfl rfl)
theorem dX7_fit_8 : decode cX7_fit 8 = .ok (.iconst (-1), 1) := dk_2 (dk_at dksX7_fit_0 8 rfl rfl)
theorem dX7_fit_9 : decode cX7_fit 9 = .ok (.if_icmp .eq 17, 3) := dk_159 0 17 (dk_at dksX7_fit_0 9 rfl rfl)
theorem dX7_fit_12 : decode cX7_fit 12 = .ok (.iload_n 3, 1) := dk_29 (dk_at dksX7_fit_0 12 rfl rfl)
theorem dX7_fit_13 : decode cX7_fit 13 = .ok (.aload_n 0, 1) := dk_42 (dk_at dksX7_fit_0 13 rfl rfl)
theorem dX7_fit_14 : decode cX7_fit 14 = .ok (.iload_n 1, 1) := dk_27 (dk_at dksX7_fit_0 14 rfl rfl)
theorem dX7_fit_15 : decode cX7_fit 15 = .ok (.iload_n 2, 1) := dk_28 (dk_at dksX7_fit_0 15 rfl rfl)
theorem dX7_fit_16 : decode cX7_fit 16 = .ok (.invokevirtual 265, 3) := dk_182 1 9 (dk_at dksX7_fit_0 16 rfl rfl)
theorem dX7_fit_19 : decode cX7_fit 19 = .ok (.if_icmp .gt 7, 3) := dk_163 0 7 (dk_at dksX7_fit_0 19 rfl rfl)
theorem dX7_fit_22 : decode cX7_fit 22 = .ok (.iconst 1, 1) := dk_4 (dk_at dksX7_fit_0 22 rfl rfl)
theorem dX7_fit_23 : decode cX7_fit 23 = .ok (.goto 4, 3) := dk_167 0 4 (dk_at dksX7_fit_1 0 rfl rfl)
theorem dX7_fit_26 : decode cX7_fit 26 = .ok (.iconst 0, 1) := dk_3 (dk_at dksX7_fit_1 3 rfl rfl)
theorem dX7_fit_27 : decode cX7_fit 27 = .ok (.ireturn, 1) := dk_172 (dk_at dksX7_fit_1 4 rfl rfl)
abbrev cX7_slackBy : ByteArray := prog_21_method_48_code
def yX7_slackBy : MethodName := ⟨RX7, "slackBy", "(II)I"⟩
def dkwX7_slackBy_3 : List UInt8 := [132, 5, 1, 167, 255, 199, 132, 4, 1, 167, 255, 183, 29, 18, 245, 160, 0, 7, 2, 167, 0, 4, 29, 172]
abbrev dktX7_slackBy_3 : List UInt8 := dkwX7_slackBy_3 ++ []
def dkwX7_slackBy_2 : List UInt8 := [46, 21, 5, 184, 0, 101, 153, 0, 16, 29, 42, 21, 4, 21, 5, 182, 0, 246, 184, 0, 249, 62]
abbrev dktX7_slackBy_2 : List UInt8 := dkwX7_slackBy_2 ++ dktX7_slackBy_3
def dkwX7_slackBy_1 : List UInt8 := [180, 0, 7, 16, 48, 27, 96, 46, 21, 4, 184, 0, 101, 153, 0, 33, 42, 180, 0, 7, 16, 48, 28, 96]
abbrev dktX7_slackBy_1 : List UInt8 := dkwX7_slackBy_1 ++ dktX7_slackBy_2
def dkwX7_slackBy_0 : List UInt8 := [18, 245, 62, 3, 54, 4, 21, 4, 16, 12, 162, 0, 72, 3, 54, 5, 21, 5, 16, 12, 162, 0, 56, 42]
abbrev dktX7_slackBy_0 : List UInt8 := dkwX7_slackBy_0 ++ dktX7_slackBy_1
theorem dksX7_slackBy_0 : cX7_slackBy.data.toList.drop 0 = dktX7_slackBy_0 := by decide +kernel
theorem dksX7_slackBy_1 : cX7_slackBy.data.toList.drop 24 = dktX7_slackBy_1 := dk_seg dksX7_slackBy_0 24 rfl rfl
theorem dksX7_slackBy_2 : cX7_slackBy.data.toList.drop 48 = dktX7_slackBy_2 := dk_seg dksX7_slackBy_1 24 rfl rfl
theorem dksX7_slackBy_3 : cX7_slackBy.data.toList.drop 70 = dktX7_slackBy_3 := dk_seg dksX7_slackBy_2 22 rfl rfl
theorem dX7_slackBy_0 : decode cX7_slackBy 0 = .ok (.ldc 245, 2) := dk_18 245 (dk_at dksX7_slackBy_0 0 rfl rfl)
theorem dX7_slackBy_2 : decode cX7_slackBy 2 = .ok (.istore_n 3, 1) := dk_62 (dk_at dksX7_slackBy_0 2 rfl rfl)
theorem dX7_slackBy_3 : decode cX7_slackBy 3 = .ok (.iconst 0, 1) := dk_3 (dk_at dksX7_slackBy_0 3 rfl rfl)
theorem dX7_slackBy_4 : decode cX7_slackBy 4 = .ok (.istore 4, 2) := dk_54 4 (dk_at dksX7_slackBy_0 4 rfl rfl)
theorem dX7_slackBy_6 : decode cX7_slackBy 6 = .ok (.iload 4, 2) := dk_21 4 (dk_at dksX7_slackBy_0 6 rfl rfl)
theorem dX7_slackBy_8 : decode cX7_slackBy 8 = .ok (.bipush 12, 2) := dk_16 12 (dk_at dksX7_slackBy_0 8 rfl rfl)
theorem dX7_slackBy_10 : decode cX7_slackBy 10 = .ok (.if_icmp .ge 72, 3) := dk_162 0 72 (dk_at dksX7_slackBy_0 10 rfl rfl)
theorem dX7_slackBy_13 : decode cX7_slackBy 13 = .ok (.iconst 0, 1) := dk_3 (dk_at dksX7_slackBy_0 13 rfl rfl)
theorem dX7_slackBy_14 : decode cX7_slackBy 14 = .ok (.istore 5, 2) := dk_54 5 (dk_at dksX7_slackBy_0 14 rfl rfl)
theorem dX7_slackBy_16 : decode cX7_slackBy 16 = .ok (.iload 5, 2) := dk_21 5 (dk_at dksX7_slackBy_0 16 rfl rfl)
theorem dX7_slackBy_18 : decode cX7_slackBy 18 = .ok (.bipush 12, 2) := dk_16 12 (dk_at dksX7_slackBy_0 18 rfl rfl)
theorem dX7_slackBy_20 : decode cX7_slackBy 20 = .ok (.if_icmp .ge 56, 3) := dk_162 0 56 (dk_at dksX7_slackBy_0 20 rfl rfl)
theorem dX7_slackBy_23 : decode cX7_slackBy 23 = .ok (.aload_n 0, 1) := dk_42 (dk_at dksX7_slackBy_0 23 rfl rfl)
theorem dX7_slackBy_24 : decode cX7_slackBy 24 = .ok (.getfield 7, 3) := dk_180 0 7 (dk_at dksX7_slackBy_1 0 rfl rfl)
theorem dX7_slackBy_27 : decode cX7_slackBy 27 = .ok (.bipush 48, 2) := dk_16 48 (dk_at dksX7_slackBy_1 3 rfl rfl)
theorem dX7_slackBy_29 : decode cX7_slackBy 29 = .ok (.iload_n 1, 1) := dk_27 (dk_at dksX7_slackBy_1 5 rfl rfl)
theorem dX7_slackBy_30 : decode cX7_slackBy 30 = .ok (.iadd, 1) := dk_96 (dk_at dksX7_slackBy_1 6 rfl rfl)
theorem dX7_slackBy_31 : decode cX7_slackBy 31 = .ok (.iaload, 1) := dk_46 (dk_at dksX7_slackBy_1 7 rfl rfl)
theorem dX7_slackBy_32 : decode cX7_slackBy 32 = .ok (.iload 4, 2) := dk_21 4 (dk_at dksX7_slackBy_1 8 rfl rfl)
theorem dX7_slackBy_34 : decode cX7_slackBy 34 = .ok (.invokestatic 101, 3) := dk_184 0 101 (dk_at dksX7_slackBy_1 10 rfl rfl)
theorem dX7_slackBy_37 : decode cX7_slackBy 37 = .ok (.ifCond .eq 33, 3) := dk_153 0 33 (dk_at dksX7_slackBy_1 13 rfl rfl)
theorem dX7_slackBy_40 : decode cX7_slackBy 40 = .ok (.aload_n 0, 1) := dk_42 (dk_at dksX7_slackBy_1 16 rfl rfl)
theorem dX7_slackBy_41 : decode cX7_slackBy 41 = .ok (.getfield 7, 3) := dk_180 0 7 (dk_at dksX7_slackBy_1 17 rfl rfl)
theorem dX7_slackBy_44 : decode cX7_slackBy 44 = .ok (.bipush 48, 2) := dk_16 48 (dk_at dksX7_slackBy_1 20 rfl rfl)
theorem dX7_slackBy_46 : decode cX7_slackBy 46 = .ok (.iload_n 2, 1) := dk_28 (dk_at dksX7_slackBy_1 22 rfl rfl)
theorem dX7_slackBy_47 : decode cX7_slackBy 47 = .ok (.iadd, 1) := dk_96 (dk_at dksX7_slackBy_1 23 rfl rfl)
theorem dX7_slackBy_48 : decode cX7_slackBy 48 = .ok (.iaload, 1) := dk_46 (dk_at dksX7_slackBy_2 0 rfl rfl)
theorem dX7_slackBy_49 : decode cX7_slackBy 49 = .ok (.iload 5, 2) := dk_21 5 (dk_at dksX7_slackBy_2 1 rfl rfl)
theorem dX7_slackBy_51 : decode cX7_slackBy 51 = .ok (.invokestatic 101, 3) := dk_184 0 101 (dk_at dksX7_slackBy_2 3 rfl rfl)
theorem dX7_slackBy_54 : decode cX7_slackBy 54 = .ok (.ifCond .eq 16, 3) := dk_153 0 16 (dk_at dksX7_slackBy_2 6 rfl rfl)
theorem dX7_slackBy_57 : decode cX7_slackBy 57 = .ok (.iload_n 3, 1) := dk_29 (dk_at dksX7_slackBy_2 9 rfl rfl)
theorem dX7_slackBy_58 : decode cX7_slackBy 58 = .ok (.aload_n 0, 1) := dk_42 (dk_at dksX7_slackBy_2 10 rfl rfl)
theorem dX7_slackBy_59 : decode cX7_slackBy 59 = .ok (.iload 4, 2) := dk_21 4 (dk_at dksX7_slackBy_2 11 rfl rfl)
theorem dX7_slackBy_61 : decode cX7_slackBy 61 = .ok (.iload 5, 2) := dk_21 5 (dk_at dksX7_slackBy_2 13 rfl rfl)
theorem dX7_slackBy_63 : decode cX7_slackBy 63 = .ok (.invokevirtual 246, 3) := dk_182 0 246 (dk_at dksX7_slackBy_2 15 rfl rfl)
theorem dX7_slackBy_66 : decode cX7_slackBy 66 = .ok (.invokestatic 249, 3) := dk_184 0 249 (dk_at dksX7_slackBy_2 18 rfl rfl)
theorem dX7_slackBy_69 : decode cX7_slackBy 69 = .ok (.istore_n 3, 1) := dk_62 (dk_at dksX7_slackBy_2 21 rfl rfl)
theorem dX7_slackBy_70 : decode cX7_slackBy 70 = .ok (.iinc 5 1, 3) := dk_132 5 1 (dk_at dksX7_slackBy_3 0 rfl rfl)
theorem dX7_slackBy_73 : decode cX7_slackBy 73 = .ok (.goto (-57), 3) := dk_167 255 199 (dk_at dksX7_slackBy_3 3 rfl rfl)
theorem dX7_slackBy_76 : decode cX7_slackBy 76 = .ok (.iinc 4 1, 3) := dk_132 4 1 (dk_at dksX7_slackBy_3 6 rfl rfl)
theorem dX7_slackBy_79 : decode cX7_slackBy 79 = .ok (.goto (-73), 3) := dk_167 255 183 (dk_at dksX7_slackBy_3 9 rfl rfl)
theorem dX7_slackBy_82 : decode cX7_slackBy 82 = .ok (.iload_n 3, 1) := dk_29 (dk_at dksX7_slackBy_3 12 rfl rfl)
theorem dX7_slackBy_83 : decode cX7_slackBy 83 = .ok (.ldc 245, 2) := dk_18 245 (dk_at dksX7_slackBy_3 13 rfl rfl)
theorem dX7_slackBy_85 : decode cX7_slackBy 85 = .ok (.if_icmp .ne 7, 3) := dk_160 0 7 (dk_at dksX7_slackBy_3 15 rfl rfl)
theorem dX7_slackBy_88 : decode cX7_slackBy 88 = .ok (.iconst (-1), 1) := dk_2 (dk_at dksX7_slackBy_3 18 rfl rfl)
theorem dX7_slackBy_89 : decode cX7_slackBy 89 = .ok (.goto 4, 3) := dk_167 0 4 (dk_at dksX7_slackBy_3 19 rfl rfl)
theorem dX7_slackBy_92 : decode cX7_slackBy 92 = .ok (.iload_n 3, 1) := dk_29 (dk_at dksX7_slackBy_3 22 rfl rfl)
theorem dX7_slackBy_93 : decode cX7_slackBy 93 = .ok (.ireturn, 1) := dk_172 (dk_at dksX7_slackBy_3 23 rfl rfl)
abbrev cX7_slackOf : ByteArray := prog_21_method_47_code
def yX7_slackOf : MethodName := ⟨RX7, "slackOf", "(II)I"⟩
def dkwX7_slackOf_2 : List UInt8 := [16, 72, 27, 96, 46, 100, 42, 180, 0, 7, 16, 72, 28, 96, 46, 100, 184, 0, 242, 172]
abbrev dktX7_slackOf_2 : List UInt8 := dkwX7_slackOf_2 ++ []
def dkwX7_slackOf_1 : List UInt8 := [21, 4, 100, 182, 0, 236, 96, 184, 0, 239, 96, 62, 132, 4, 1, 167, 255, 222, 3, 29, 42, 180, 0, 7]
abbrev dktX7_slackOf_1 : List UInt8 := dkwX7_slackOf_1 ++ dktX7_slackOf_2
def dkwX7_slackOf_0 : List UInt8 := [3, 62, 3, 54, 4, 21, 4, 16, 8, 162, 0, 33, 29, 42, 27, 21, 4, 182, 0, 236, 42, 28, 16, 7]
abbrev dktX7_slackOf_0 : List UInt8 := dkwX7_slackOf_0 ++ dktX7_slackOf_1
theorem dksX7_slackOf_0 : cX7_slackOf.data.toList.drop 0 = dktX7_slackOf_0 := by decide +kernel
theorem dksX7_slackOf_1 : cX7_slackOf.data.toList.drop 24 = dktX7_slackOf_1 := dk_seg dksX7_slackOf_0 24 rfl rfl
theorem dksX7_slackOf_2 : cX7_slackOf.data.toList.drop 48 = dktX7_slackOf_2 := dk_seg dksX7_slackOf_1 24 rfl rfl
theorem dX7_slackOf_0 : decode cX7_slackOf 0 = .ok (.iconst 0, 1) := dk_3 (dk_at dksX7_slackOf_0 0 rfl rfl)
theorem dX7_slackOf_1 : decode cX7_slackOf 1 = .ok (.istore_n 3, 1) := dk_62 (dk_at dksX7_slackOf_0 1 rfl rfl)
theorem dX7_slackOf_2 : decode cX7_slackOf 2 = .ok (.iconst 0, 1) := dk_3 (dk_at dksX7_slackOf_0 2 rfl rfl)
theorem dX7_slackOf_3 : decode cX7_slackOf 3 = .ok (.istore 4, 2) := dk_54 4 (dk_at dksX7_slackOf_0 3 rfl rfl)
theorem dX7_slackOf_5 : decode cX7_slackOf 5 = .ok (.iload 4, 2) := dk_21 4 (dk_at dksX7_slackOf_0 5 rfl rfl)
theorem dX7_slackOf_7 : decode cX7_slackOf 7 = .ok (.bipush 8, 2) := dk_16 8 (dk_at dksX7_slackOf_0 7 rfl rfl)
theorem dX7_slackOf_9 : decode cX7_slackOf 9 = .ok (.if_icmp .ge 33, 3) := dk_162 0 33 (dk_at dksX7_slackOf_0 9 rfl rfl)
theorem dX7_slackOf_12 : decode cX7_slackOf 12 = .ok (.iload_n 3, 1) := dk_29 (dk_at dksX7_slackOf_0 12 rfl rfl)
theorem dX7_slackOf_13 : decode cX7_slackOf 13 = .ok (.aload_n 0, 1) := dk_42 (dk_at dksX7_slackOf_0 13 rfl rfl)
theorem dX7_slackOf_14 : decode cX7_slackOf 14 = .ok (.iload_n 1, 1) := dk_27 (dk_at dksX7_slackOf_0 14 rfl rfl)
theorem dX7_slackOf_15 : decode cX7_slackOf 15 = .ok (.iload 4, 2) := dk_21 4 (dk_at dksX7_slackOf_0 15 rfl rfl)
theorem dX7_slackOf_17 : decode cX7_slackOf 17 = .ok (.invokevirtual 236, 3) := dk_182 0 236 (dk_at dksX7_slackOf_0 17 rfl rfl)
theorem dX7_slackOf_20 : decode cX7_slackOf 20 = .ok (.aload_n 0, 1) := dk_42 (dk_at dksX7_slackOf_0 20 rfl rfl)
theorem dX7_slackOf_21 : decode cX7_slackOf 21 = .ok (.iload_n 2, 1) := dk_28 (dk_at dksX7_slackOf_0 21 rfl rfl)
theorem dX7_slackOf_22 : decode cX7_slackOf 22 = .ok (.bipush 7, 2) := dk_16 7 (dk_at dksX7_slackOf_0 22 rfl rfl)
theorem dX7_slackOf_24 : decode cX7_slackOf 24 = .ok (.iload 4, 2) := dk_21 4 (dk_at dksX7_slackOf_1 0 rfl rfl)
theorem dX7_slackOf_26 : decode cX7_slackOf 26 = .ok (.isub, 1) := dk_100 (dk_at dksX7_slackOf_1 2 rfl rfl)
theorem dX7_slackOf_27 : decode cX7_slackOf 27 = .ok (.invokevirtual 236, 3) := dk_182 0 236 (dk_at dksX7_slackOf_1 3 rfl rfl)
theorem dX7_slackOf_30 : decode cX7_slackOf 30 = .ok (.iadd, 1) := dk_96 (dk_at dksX7_slackOf_1 6 rfl rfl)
theorem dX7_slackOf_31 : decode cX7_slackOf 31 = .ok (.invokestatic 239, 3) := dk_184 0 239 (dk_at dksX7_slackOf_1 7 rfl rfl)
theorem dX7_slackOf_34 : decode cX7_slackOf 34 = .ok (.iadd, 1) := dk_96 (dk_at dksX7_slackOf_1 10 rfl rfl)
theorem dX7_slackOf_35 : decode cX7_slackOf 35 = .ok (.istore_n 3, 1) := dk_62 (dk_at dksX7_slackOf_1 11 rfl rfl)
theorem dX7_slackOf_36 : decode cX7_slackOf 36 = .ok (.iinc 4 1, 3) := dk_132 4 1 (dk_at dksX7_slackOf_1 12 rfl rfl)
theorem dX7_slackOf_39 : decode cX7_slackOf 39 = .ok (.goto (-34), 3) := dk_167 255 222 (dk_at dksX7_slackOf_1 15 rfl rfl)
theorem dX7_slackOf_42 : decode cX7_slackOf 42 = .ok (.iconst 0, 1) := dk_3 (dk_at dksX7_slackOf_1 18 rfl rfl)
theorem dX7_slackOf_43 : decode cX7_slackOf 43 = .ok (.iload_n 3, 1) := dk_29 (dk_at dksX7_slackOf_1 19 rfl rfl)
theorem dX7_slackOf_44 : decode cX7_slackOf 44 = .ok (.aload_n 0, 1) := dk_42 (dk_at dksX7_slackOf_1 20 rfl rfl)
theorem dX7_slackOf_45 : decode cX7_slackOf 45 = .ok (.getfield 7, 3) := dk_180 0 7 (dk_at dksX7_slackOf_1 21 rfl rfl)
theorem dX7_slackOf_48 : decode cX7_slackOf 48 = .ok (.bipush 72, 2) := dk_16 72 (dk_at dksX7_slackOf_2 0 rfl rfl)
theorem dX7_slackOf_50 : decode cX7_slackOf 50 = .ok (.iload_n 1, 1) := dk_27 (dk_at dksX7_slackOf_2 2 rfl rfl)
theorem dX7_slackOf_51 : decode cX7_slackOf 51 = .ok (.iadd, 1) := dk_96 (dk_at dksX7_slackOf_2 3 rfl rfl)
theorem dX7_slackOf_52 : decode cX7_slackOf 52 = .ok (.iaload, 1) := dk_46 (dk_at dksX7_slackOf_2 4 rfl rfl)
theorem dX7_slackOf_53 : decode cX7_slackOf 53 = .ok (.isub, 1) := dk_100 (dk_at dksX7_slackOf_2 5 rfl rfl)
theorem dX7_slackOf_54 : decode cX7_slackOf 54 = .ok (.aload_n 0, 1) := dk_42 (dk_at dksX7_slackOf_2 6 rfl rfl)
theorem dX7_slackOf_55 : decode cX7_slackOf 55 = .ok (.getfield 7, 3) := dk_180 0 7 (dk_at dksX7_slackOf_2 7 rfl rfl)
theorem dX7_slackOf_58 : decode cX7_slackOf 58 = .ok (.bipush 72, 2) := dk_16 72 (dk_at dksX7_slackOf_2 10 rfl rfl)
theorem dX7_slackOf_60 : decode cX7_slackOf 60 = .ok (.iload_n 2, 1) := dk_28 (dk_at dksX7_slackOf_2 12 rfl rfl)
theorem dX7_slackOf_61 : decode cX7_slackOf 61 = .ok (.iadd, 1) := dk_96 (dk_at dksX7_slackOf_2 13 rfl rfl)
theorem dX7_slackOf_62 : decode cX7_slackOf 62 = .ok (.iaload, 1) := dk_46 (dk_at dksX7_slackOf_2 14 rfl rfl)
theorem dX7_slackOf_63 : decode cX7_slackOf 63 = .ok (.isub, 1) := dk_100 (dk_at dksX7_slackOf_2 15 rfl rfl)
theorem dX7_slackOf_64 : decode cX7_slackOf 64 = .ok (.invokestatic 242, 3) := dk_184 0 242 (dk_at dksX7_slackOf_2 16 rfl rfl)
theorem dX7_slackOf_67 : decode cX7_slackOf 67 = .ok (.ireturn, 1) := dk_172 (dk_at dksX7_slackOf_2 19 rfl rfl)
abbrev cX7_heightOf : ByteArray := prog_21_method_46_code
def yX7_heightOf : MethodName := ⟨RX7, "heightOf", "(II)I"⟩
def dkwX7_heightOf_0 : List UInt8 := [42, 180, 0, 7, 16, 112, 16, 8, 27, 104, 96, 28, 96, 46, 172]
abbrev dktX7_heightOf_0 : List UInt8 := dkwX7_heightOf_0 ++ []
theorem dksX7_heightOf_0 : cX7_heightOf.data.toList.drop 0 = dktX7_heightOf_0 := by decide +kernel
theorem dX7_heightOf_0 : decode cX7_heightOf 0 = .ok (.aload_n 0, 1) := dk_42 (dk_at dksX7_heightOf_0 0 rfl rfl)
theorem dX7_heightOf_1 : decode cX7_heightOf 1 = .ok (.getfield 7, 3) := dk_180 0 7 (dk_at dksX7_heightOf_0 1 rfl rfl)
theorem dX7_heightOf_4 : decode cX7_heightOf 4 = .ok (.bipush 112, 2) := dk_16 112 (dk_at dksX7_heightOf_0 4 rfl rfl)
theorem dX7_heightOf_6 : decode cX7_heightOf 6 = .ok (.bipush 8, 2) := dk_16 8 (dk_at dksX7_heightOf_0 6 rfl rfl)
theorem dX7_heightOf_8 : decode cX7_heightOf 8 = .ok (.iload_n 1, 1) := dk_27 (dk_at dksX7_heightOf_0 8 rfl rfl)
theorem dX7_heightOf_9 : decode cX7_heightOf 9 = .ok (.imul, 1) := dk_104 (dk_at dksX7_heightOf_0 9 rfl rfl)
theorem dX7_heightOf_10 : decode cX7_heightOf 10 = .ok (.iadd, 1) := dk_96 (dk_at dksX7_heightOf_0 10 rfl rfl)
theorem dX7_heightOf_11 : decode cX7_heightOf 11 = .ok (.iload_n 2, 1) := dk_28 (dk_at dksX7_heightOf_0 11 rfl rfl)
theorem dX7_heightOf_12 : decode cX7_heightOf 12 = .ok (.iadd, 1) := dk_96 (dk_at dksX7_heightOf_0 12 rfl rfl)
theorem dX7_heightOf_13 : decode cX7_heightOf 13 = .ok (.iaload, 1) := dk_46 (dk_at dksX7_heightOf_0 13 rfl rfl)
theorem dX7_heightOf_14 : decode cX7_heightOf 14 = .ok (.ireturn, 1) := dk_172 (dk_at dksX7_heightOf_0 14 rfl rfl)
abbrev cX7_max : ByteArray := prog_21_method_4_code
def yX7_max : MethodName := ⟨RX7, "max", "(II)I"⟩
def dkwX7_max_0 : List UInt8 := [26, 27, 164, 0, 7, 26, 167, 0, 4, 27, 172]
abbrev dktX7_max_0 : List UInt8 := dkwX7_max_0 ++ []
theorem dksX7_max_0 : cX7_max.data.toList.drop 0 = dktX7_max_0 := by decide +kernel
theorem dX7_max_0 : decode cX7_max 0 = .ok (.iload_n 0, 1) := dk_26 (dk_at dksX7_max_0 0 rfl rfl)
theorem dX7_max_1 : decode cX7_max 1 = .ok (.iload_n 1, 1) := dk_27 (dk_at dksX7_max_0 1 rfl rfl)
theorem dX7_max_2 : decode cX7_max 2 = .ok (.if_icmp .le 7, 3) := dk_164 0 7 (dk_at dksX7_max_0 2 rfl rfl)
theorem dX7_max_5 : decode cX7_max 5 = .ok (.iload_n 0, 1) := dk_26 (dk_at dksX7_max_0 5 rfl rfl)
theorem dX7_max_6 : decode cX7_max 6 = .ok (.goto 4, 3) := dk_167 0 4 (dk_at dksX7_max_0 6 rfl rfl)
theorem dX7_max_9 : decode cX7_max 9 = .ok (.iload_n 1, 1) := dk_27 (dk_at dksX7_max_0 9 rfl rfl)
theorem dX7_max_10 : decode cX7_max 10 = .ok (.ireturn, 1) := dk_172 (dk_at dksX7_max_0 10 rfl rfl)
abbrev cX7_min : ByteArray := prog_21_method_3_code
def yX7_min : MethodName := ⟨RX7, "min", "(II)I"⟩
def dkwX7_min_0 : List UInt8 := [26, 27, 162, 0, 7, 26, 167, 0, 4, 27, 172]
abbrev dktX7_min_0 : List UInt8 := dkwX7_min_0 ++ []
theorem dksX7_min_0 : cX7_min.data.toList.drop 0 = dktX7_min_0 := by decide +kernel
theorem dX7_min_0 : decode cX7_min 0 = .ok (.iload_n 0, 1) := dk_26 (dk_at dksX7_min_0 0 rfl rfl)
theorem dX7_min_1 : decode cX7_min 1 = .ok (.iload_n 1, 1) := dk_27 (dk_at dksX7_min_0 1 rfl rfl)
theorem dX7_min_2 : decode cX7_min 2 = .ok (.if_icmp .ge 7, 3) := dk_162 0 7 (dk_at dksX7_min_0 2 rfl rfl)
theorem dX7_min_5 : decode cX7_min 5 = .ok (.iload_n 0, 1) := dk_26 (dk_at dksX7_min_0 5 rfl rfl)
theorem dX7_min_6 : decode cX7_min 6 = .ok (.goto 4, 3) := dk_167 0 4 (dk_at dksX7_min_0 6 rfl rfl)
theorem dX7_min_9 : decode cX7_min 9 = .ok (.iload_n 1, 1) := dk_27 (dk_at dksX7_min_0 9 rfl rfl)
theorem dX7_min_10 : decode cX7_min 10 = .ok (.ireturn, 1) := dk_172 (dk_at dksX7_min_0 10 rfl rfl)
abbrev cX7_allowed : ByteArray := prog_21_method_50_code
def yX7_allowed : MethodName := ⟨RX7, "allowed", "(II)I"⟩
def dkwX7_allowed_3 : List UInt8 := [16, 102, 16, 99, 182, 1, 3, 172]
abbrev dktX7_allowed_3 : List UInt8 := dkwX7_allowed_3 ++ []
def dkwX7_allowed_2 : List UInt8 := [62, 29, 153, 0, 13, 42, 27, 28, 3, 182, 0, 255, 167, 0, 10, 42, 28, 27, 3, 182, 0, 255, 42]
abbrev dktX7_allowed_2 : List UInt8 := dkwX7_allowed_2 ++ dktX7_allowed_3
def dkwX7_allowed_1 : List UInt8 := [27, 96, 46, 42, 180, 0, 7, 3, 28, 96, 46, 160, 0, 12, 27, 28, 162, 0, 7, 4, 167, 0, 4, 3]
abbrev dktX7_allowed_1 : List UInt8 := dkwX7_allowed_1 ++ dktX7_allowed_2
def dkwX7_allowed_0 : List UInt8 := [42, 180, 0, 7, 3, 27, 96, 46, 42, 180, 0, 7, 3, 28, 96, 46, 161, 0, 27, 42, 180, 0, 7, 3]
abbrev dktX7_allowed_0 : List UInt8 := dkwX7_allowed_0 ++ dktX7_allowed_1
theorem dksX7_allowed_0 : cX7_allowed.data.toList.drop 0 = dktX7_allowed_0 := by decide +kernel
theorem dksX7_allowed_1 : cX7_allowed.data.toList.drop 24 = dktX7_allowed_1 := dk_seg dksX7_allowed_0 24 rfl rfl
theorem dksX7_allowed_2 : cX7_allowed.data.toList.drop 48 = dktX7_allowed_2 := dk_seg dksX7_allowed_1 24 rfl rfl
theorem dksX7_allowed_3 : cX7_allowed.data.toList.drop 71 = dktX7_allowed_3 := dk_seg dksX7_allowed_2 23 rfl rfl
theorem dX7_allowed_0 : decode cX7_allowed 0 = .ok (.aload_n 0, 1) := dk_42 (dk_at dksX7_allowed_0 0 rfl rfl)
theorem dX7_allowed_1 : decode cX7_allowed 1 = .ok (.getfield 7, 3) := dk_180 0 7 (dk_at dksX7_allowed_0 1 rfl rfl)
theorem dX7_allowed_4 : decode cX7_allowed 4 = .ok (.iconst 0, 1) := dk_3 (dk_at dksX7_allowed_0 4 rfl rfl)
theorem dX7_allowed_5 : decode cX7_allowed 5 = .ok (.iload_n 1, 1) := dk_27 (dk_at dksX7_allowed_0 5 rfl rfl)
theorem dX7_allowed_6 : decode cX7_allowed 6 = .ok (.iadd, 1) := dk_96 (dk_at dksX7_allowed_0 6 rfl rfl)
theorem dX7_allowed_7 : decode cX7_allowed 7 = .ok (.iaload, 1) := dk_46 (dk_at dksX7_allowed_0 7 rfl rfl)
theorem dX7_allowed_8 : decode cX7_allowed 8 = .ok (.aload_n 0, 1) := dk_42 (dk_at dksX7_allowed_0 8 rfl rfl)
theorem dX7_allowed_9 : decode cX7_allowed 9 = .ok (.getfield 7, 3) := dk_180 0 7 (dk_at dksX7_allowed_0 9 rfl rfl)
theorem dX7_allowed_12 : decode cX7_allowed 12 = .ok (.iconst 0, 1) := dk_3 (dk_at dksX7_allowed_0 12 rfl rfl)
theorem dX7_allowed_13 : decode cX7_allowed 13 = .ok (.iload_n 2, 1) := dk_28 (dk_at dksX7_allowed_0 13 rfl rfl)
theorem dX7_allowed_14 : decode cX7_allowed 14 = .ok (.iadd, 1) := dk_96 (dk_at dksX7_allowed_0 14 rfl rfl)
theorem dX7_allowed_15 : decode cX7_allowed 15 = .ok (.iaload, 1) := dk_46 (dk_at dksX7_allowed_0 15 rfl rfl)
theorem dX7_allowed_16 : decode cX7_allowed 16 = .ok (.if_icmp .lt 27, 3) := dk_161 0 27 (dk_at dksX7_allowed_0 16 rfl rfl)
theorem dX7_allowed_19 : decode cX7_allowed 19 = .ok (.aload_n 0, 1) := dk_42 (dk_at dksX7_allowed_0 19 rfl rfl)
theorem dX7_allowed_20 : decode cX7_allowed 20 = .ok (.getfield 7, 3) := dk_180 0 7 (dk_at dksX7_allowed_0 20 rfl rfl)
theorem dX7_allowed_23 : decode cX7_allowed 23 = .ok (.iconst 0, 1) := dk_3 (dk_at dksX7_allowed_0 23 rfl rfl)
theorem dX7_allowed_24 : decode cX7_allowed 24 = .ok (.iload_n 1, 1) := dk_27 (dk_at dksX7_allowed_1 0 rfl rfl)
theorem dX7_allowed_25 : decode cX7_allowed 25 = .ok (.iadd, 1) := dk_96 (dk_at dksX7_allowed_1 1 rfl rfl)
theorem dX7_allowed_26 : decode cX7_allowed 26 = .ok (.iaload, 1) := dk_46 (dk_at dksX7_allowed_1 2 rfl rfl)
theorem dX7_allowed_27 : decode cX7_allowed 27 = .ok (.aload_n 0, 1) := dk_42 (dk_at dksX7_allowed_1 3 rfl rfl)
theorem dX7_allowed_28 : decode cX7_allowed 28 = .ok (.getfield 7, 3) := dk_180 0 7 (dk_at dksX7_allowed_1 4 rfl rfl)
theorem dX7_allowed_31 : decode cX7_allowed 31 = .ok (.iconst 0, 1) := dk_3 (dk_at dksX7_allowed_1 7 rfl rfl)
theorem dX7_allowed_32 : decode cX7_allowed 32 = .ok (.iload_n 2, 1) := dk_28 (dk_at dksX7_allowed_1 8 rfl rfl)
theorem dX7_allowed_33 : decode cX7_allowed 33 = .ok (.iadd, 1) := dk_96 (dk_at dksX7_allowed_1 9 rfl rfl)
theorem dX7_allowed_34 : decode cX7_allowed 34 = .ok (.iaload, 1) := dk_46 (dk_at dksX7_allowed_1 10 rfl rfl)
theorem dX7_allowed_35 : decode cX7_allowed 35 = .ok (.if_icmp .ne 12, 3) := dk_160 0 12 (dk_at dksX7_allowed_1 11 rfl rfl)
theorem dX7_allowed_38 : decode cX7_allowed 38 = .ok (.iload_n 1, 1) := dk_27 (dk_at dksX7_allowed_1 14 rfl rfl)
theorem dX7_allowed_39 : decode cX7_allowed 39 = .ok (.iload_n 2, 1) := dk_28 (dk_at dksX7_allowed_1 15 rfl rfl)
theorem dX7_allowed_40 : decode cX7_allowed 40 = .ok (.if_icmp .ge 7, 3) := dk_162 0 7 (dk_at dksX7_allowed_1 16 rfl rfl)
theorem dX7_allowed_43 : decode cX7_allowed 43 = .ok (.iconst 1, 1) := dk_4 (dk_at dksX7_allowed_1 19 rfl rfl)
theorem dX7_allowed_44 : decode cX7_allowed 44 = .ok (.goto 4, 3) := dk_167 0 4 (dk_at dksX7_allowed_1 20 rfl rfl)
theorem dX7_allowed_47 : decode cX7_allowed 47 = .ok (.iconst 0, 1) := dk_3 (dk_at dksX7_allowed_1 23 rfl rfl)
theorem dX7_allowed_48 : decode cX7_allowed 48 = .ok (.istore_n 3, 1) := dk_62 (dk_at dksX7_allowed_2 0 rfl rfl)
theorem dX7_allowed_49 : decode cX7_allowed 49 = .ok (.iload_n 3, 1) := dk_29 (dk_at dksX7_allowed_2 1 rfl rfl)
theorem dX7_allowed_50 : decode cX7_allowed 50 = .ok (.ifCond .eq 13, 3) := dk_153 0 13 (dk_at dksX7_allowed_2 2 rfl rfl)
theorem dX7_allowed_53 : decode cX7_allowed 53 = .ok (.aload_n 0, 1) := dk_42 (dk_at dksX7_allowed_2 5 rfl rfl)
theorem dX7_allowed_54 : decode cX7_allowed 54 = .ok (.iload_n 1, 1) := dk_27 (dk_at dksX7_allowed_2 6 rfl rfl)
theorem dX7_allowed_55 : decode cX7_allowed 55 = .ok (.iload_n 2, 1) := dk_28 (dk_at dksX7_allowed_2 7 rfl rfl)
theorem dX7_allowed_56 : decode cX7_allowed 56 = .ok (.iconst 0, 1) := dk_3 (dk_at dksX7_allowed_2 8 rfl rfl)
theorem dX7_allowed_57 : decode cX7_allowed 57 = .ok (.invokevirtual 255, 3) := dk_182 0 255 (dk_at dksX7_allowed_2 9 rfl rfl)
theorem dX7_allowed_60 : decode cX7_allowed 60 = .ok (.goto 10, 3) := dk_167 0 10 (dk_at dksX7_allowed_2 12 rfl rfl)
theorem dX7_allowed_63 : decode cX7_allowed 63 = .ok (.aload_n 0, 1) := dk_42 (dk_at dksX7_allowed_2 15 rfl rfl)
theorem dX7_allowed_64 : decode cX7_allowed 64 = .ok (.iload_n 2, 1) := dk_28 (dk_at dksX7_allowed_2 16 rfl rfl)
theorem dX7_allowed_65 : decode cX7_allowed 65 = .ok (.iload_n 1, 1) := dk_27 (dk_at dksX7_allowed_2 17 rfl rfl)
theorem dX7_allowed_66 : decode cX7_allowed 66 = .ok (.iconst 0, 1) := dk_3 (dk_at dksX7_allowed_2 18 rfl rfl)
theorem dX7_allowed_67 : decode cX7_allowed 67 = .ok (.invokevirtual 255, 3) := dk_182 0 255 (dk_at dksX7_allowed_2 19 rfl rfl)
theorem dX7_allowed_70 : decode cX7_allowed 70 = .ok (.aload_n 0, 1) := dk_42 (dk_at dksX7_allowed_2 22 rfl rfl)
theorem dX7_allowed_71 : decode cX7_allowed 71 = .ok (.bipush 102, 2) := dk_16 102 (dk_at dksX7_allowed_3 0 rfl rfl)
theorem dX7_allowed_73 : decode cX7_allowed 73 = .ok (.bipush 99, 2) := dk_16 99 (dk_at dksX7_allowed_3 2 rfl rfl)
theorem dX7_allowed_75 : decode cX7_allowed 75 = .ok (.invokevirtual 259, 3) := dk_182 1 3 (dk_at dksX7_allowed_3 4 rfl rfl)
theorem dX7_allowed_78 : decode cX7_allowed 78 = .ok (.ireturn, 1) := dk_172 (dk_at dksX7_allowed_3 7 rfl rfl)
abbrev cX7_feels : ByteArray := prog_21_method_49_code
def yX7_feels : MethodName := ⟨RX7, "feels", "(III)V"⟩
def dkwX7_feels_6 : List UInt8 := [180, 0, 7, 3, 28, 96, 46, 79, 177]
abbrev dktX7_feels_6 : List UInt8 := dkwX7_feels_6 ++ []
def dkwX7_feels_5 : List UInt8 := [46, 79, 42, 180, 0, 59, 16, 9, 42, 180, 0, 7, 3, 27, 96, 46, 79, 42, 180, 0, 59, 16, 10, 42]
abbrev dktX7_feels_5 : List UInt8 := dkwX7_feels_5 ++ dktX7_feels_6
def dkwX7_feels_4 : List UInt8 := [16, 7, 42, 180, 0, 7, 16, 110, 46, 79, 42, 180, 0, 59, 16, 8, 42, 180, 0, 7, 16, 36, 27, 96]
abbrev dktX7_feels_4 : List UInt8 := dkwX7_feels_4 ++ dktX7_feels_5
def dkwX7_feels_3 : List UInt8 := [96, 46, 79, 42, 180, 0, 59, 16, 6, 42, 180, 0, 7, 16, 12, 28, 96, 46, 79, 42, 180, 0, 59]
abbrev dktX7_feels_3 : List UInt8 := dkwX7_feels_3 ++ dktX7_feels_4
def dkwX7_feels_2 : List UInt8 := [180, 0, 7, 16, 48, 28, 96, 46, 184, 0, 252, 79, 42, 180, 0, 59, 8, 42, 180, 0, 7, 16, 12, 27]
abbrev dktX7_feels_2 : List UInt8 := dkwX7_feels_2 ++ dktX7_feels_3
def dkwX7_feels_1 : List UInt8 := [180, 0, 59, 6, 42, 180, 0, 7, 16, 48, 27, 96, 46, 184, 0, 252, 79, 42, 180, 0, 59, 7, 42]
abbrev dktX7_feels_1 : List UInt8 := dkwX7_feels_1 ++ dktX7_feels_2
def dkwX7_feels_0 : List UInt8 := [42, 180, 0, 59, 3, 27, 79, 42, 180, 0, 59, 4, 28, 79, 42, 180, 0, 59, 5, 29, 79, 42]
abbrev dktX7_feels_0 : List UInt8 := dkwX7_feels_0 ++ dktX7_feels_1
theorem dksX7_feels_0 : cX7_feels.data.toList.drop 0 = dktX7_feels_0 := by decide +kernel
theorem dksX7_feels_1 : cX7_feels.data.toList.drop 22 = dktX7_feels_1 := dk_seg dksX7_feels_0 22 rfl rfl
theorem dksX7_feels_2 : cX7_feels.data.toList.drop 45 = dktX7_feels_2 := dk_seg dksX7_feels_1 23 rfl rfl
theorem dksX7_feels_3 : cX7_feels.data.toList.drop 69 = dktX7_feels_3 := dk_seg dksX7_feels_2 24 rfl rfl
theorem dksX7_feels_4 : cX7_feels.data.toList.drop 92 = dktX7_feels_4 := dk_seg dksX7_feels_3 23 rfl rfl
theorem dksX7_feels_5 : cX7_feels.data.toList.drop 116 = dktX7_feels_5 := dk_seg dksX7_feels_4 24 rfl rfl
theorem dksX7_feels_6 : cX7_feels.data.toList.drop 140 = dktX7_feels_6 := dk_seg dksX7_feels_5 24 rfl rfl
theorem dX7_feels_0 : decode cX7_feels 0 = .ok (.aload_n 0, 1) := dk_42 (dk_at dksX7_feels_0 0 rfl rfl)
theorem dX7_feels_1 : decode cX7_feels 1 = .ok (.getfield 59, 3) := dk_180 0 59 (dk_at dksX7_feels_0 1 rfl rfl)
theorem dX7_feels_4 : decode cX7_feels 4 = .ok (.iconst 0, 1) := dk_3 (dk_at dksX7_feels_0 4 rfl rfl)
theorem dX7_feels_5 : decode cX7_feels 5 = .ok (.iload_n 1, 1) := dk_27 (dk_at dksX7_feels_0 5 rfl rfl)
theorem dX7_feels_6 : decode cX7_feels 6 = .ok (.iastore, 1) := dk_79 (dk_at dksX7_feels_0 6 rfl rfl)
theorem dX7_feels_7 : decode cX7_feels 7 = .ok (.aload_n 0, 1) := dk_42 (dk_at dksX7_feels_0 7 rfl rfl)
theorem dX7_feels_8 : decode cX7_feels 8 = .ok (.getfield 59, 3) := dk_180 0 59 (dk_at dksX7_feels_0 8 rfl rfl)
theorem dX7_feels_11 : decode cX7_feels 11 = .ok (.iconst 1, 1) := dk_4 (dk_at dksX7_feels_0 11 rfl rfl)
theorem dX7_feels_12 : decode cX7_feels 12 = .ok (.iload_n 2, 1) := dk_28 (dk_at dksX7_feels_0 12 rfl rfl)
theorem dX7_feels_13 : decode cX7_feels 13 = .ok (.iastore, 1) := dk_79 (dk_at dksX7_feels_0 13 rfl rfl)
theorem dX7_feels_14 : decode cX7_feels 14 = .ok (.aload_n 0, 1) := dk_42 (dk_at dksX7_feels_0 14 rfl rfl)
theorem dX7_feels_15 : decode cX7_feels 15 = .ok (.getfield 59, 3) := dk_180 0 59 (dk_at dksX7_feels_0 15 rfl rfl)
theorem dX7_feels_18 : decode cX7_feels 18 = .ok (.iconst 2, 1) := dk_5 (dk_at dksX7_feels_0 18 rfl rfl)
theorem dX7_feels_19 : decode cX7_feels 19 = .ok (.iload_n 3, 1) := dk_29 (dk_at dksX7_feels_0 19 rfl rfl)
theorem dX7_feels_20 : decode cX7_feels 20 = .ok (.iastore, 1) := dk_79 (dk_at dksX7_feels_0 20 rfl rfl)
theorem dX7_feels_21 : decode cX7_feels 21 = .ok (.aload_n 0, 1) := dk_42 (dk_at dksX7_feels_0 21 rfl rfl)
theorem dX7_feels_22 : decode cX7_feels 22 = .ok (.getfield 59, 3) := dk_180 0 59 (dk_at dksX7_feels_1 0 rfl rfl)
theorem dX7_feels_25 : decode cX7_feels 25 = .ok (.iconst 3, 1) := dk_6 (dk_at dksX7_feels_1 3 rfl rfl)
theorem dX7_feels_26 : decode cX7_feels 26 = .ok (.aload_n 0, 1) := dk_42 (dk_at dksX7_feels_1 4 rfl rfl)
theorem dX7_feels_27 : decode cX7_feels 27 = .ok (.getfield 7, 3) := dk_180 0 7 (dk_at dksX7_feels_1 5 rfl rfl)
theorem dX7_feels_30 : decode cX7_feels 30 = .ok (.bipush 48, 2) := dk_16 48 (dk_at dksX7_feels_1 8 rfl rfl)
theorem dX7_feels_32 : decode cX7_feels 32 = .ok (.iload_n 1, 1) := dk_27 (dk_at dksX7_feels_1 10 rfl rfl)
theorem dX7_feels_33 : decode cX7_feels 33 = .ok (.iadd, 1) := dk_96 (dk_at dksX7_feels_1 11 rfl rfl)
theorem dX7_feels_34 : decode cX7_feels 34 = .ok (.iaload, 1) := dk_46 (dk_at dksX7_feels_1 12 rfl rfl)
theorem dX7_feels_35 : decode cX7_feels 35 = .ok (.invokestatic 252, 3) := dk_184 0 252 (dk_at dksX7_feels_1 13 rfl rfl)
theorem dX7_feels_38 : decode cX7_feels 38 = .ok (.iastore, 1) := dk_79 (dk_at dksX7_feels_1 16 rfl rfl)
theorem dX7_feels_39 : decode cX7_feels 39 = .ok (.aload_n 0, 1) := dk_42 (dk_at dksX7_feels_1 17 rfl rfl)
theorem dX7_feels_40 : decode cX7_feels 40 = .ok (.getfield 59, 3) := dk_180 0 59 (dk_at dksX7_feels_1 18 rfl rfl)
theorem dX7_feels_43 : decode cX7_feels 43 = .ok (.iconst 4, 1) := dk_7 (dk_at dksX7_feels_1 21 rfl rfl)
theorem dX7_feels_44 : decode cX7_feels 44 = .ok (.aload_n 0, 1) := dk_42 (dk_at dksX7_feels_1 22 rfl rfl)
theorem dX7_feels_45 : decode cX7_feels 45 = .ok (.getfield 7, 3) := dk_180 0 7 (dk_at dksX7_feels_2 0 rfl rfl)
theorem dX7_feels_48 : decode cX7_feels 48 = .ok (.bipush 48, 2) := dk_16 48 (dk_at dksX7_feels_2 3 rfl rfl)
theorem dX7_feels_50 : decode cX7_feels 50 = .ok (.iload_n 2, 1) := dk_28 (dk_at dksX7_feels_2 5 rfl rfl)
theorem dX7_feels_51 : decode cX7_feels 51 = .ok (.iadd, 1) := dk_96 (dk_at dksX7_feels_2 6 rfl rfl)
theorem dX7_feels_52 : decode cX7_feels 52 = .ok (.iaload, 1) := dk_46 (dk_at dksX7_feels_2 7 rfl rfl)
theorem dX7_feels_53 : decode cX7_feels 53 = .ok (.invokestatic 252, 3) := dk_184 0 252 (dk_at dksX7_feels_2 8 rfl rfl)
theorem dX7_feels_56 : decode cX7_feels 56 = .ok (.iastore, 1) := dk_79 (dk_at dksX7_feels_2 11 rfl rfl)
theorem dX7_feels_57 : decode cX7_feels 57 = .ok (.aload_n 0, 1) := dk_42 (dk_at dksX7_feels_2 12 rfl rfl)
theorem dX7_feels_58 : decode cX7_feels 58 = .ok (.getfield 59, 3) := dk_180 0 59 (dk_at dksX7_feels_2 13 rfl rfl)
theorem dX7_feels_61 : decode cX7_feels 61 = .ok (.iconst 5, 1) := dk_8 (dk_at dksX7_feels_2 16 rfl rfl)
theorem dX7_feels_62 : decode cX7_feels 62 = .ok (.aload_n 0, 1) := dk_42 (dk_at dksX7_feels_2 17 rfl rfl)
theorem dX7_feels_63 : decode cX7_feels 63 = .ok (.getfield 7, 3) := dk_180 0 7 (dk_at dksX7_feels_2 18 rfl rfl)
theorem dX7_feels_66 : decode cX7_feels 66 = .ok (.bipush 12, 2) := dk_16 12 (dk_at dksX7_feels_2 21 rfl rfl)
theorem dX7_feels_68 : decode cX7_feels 68 = .ok (.iload_n 1, 1) := dk_27 (dk_at dksX7_feels_2 23 rfl rfl)
theorem dX7_feels_69 : decode cX7_feels 69 = .ok (.iadd, 1) := dk_96 (dk_at dksX7_feels_3 0 rfl rfl)
theorem dX7_feels_70 : decode cX7_feels 70 = .ok (.iaload, 1) := dk_46 (dk_at dksX7_feels_3 1 rfl rfl)
theorem dX7_feels_71 : decode cX7_feels 71 = .ok (.iastore, 1) := dk_79 (dk_at dksX7_feels_3 2 rfl rfl)
theorem dX7_feels_72 : decode cX7_feels 72 = .ok (.aload_n 0, 1) := dk_42 (dk_at dksX7_feels_3 3 rfl rfl)
theorem dX7_feels_73 : decode cX7_feels 73 = .ok (.getfield 59, 3) := dk_180 0 59 (dk_at dksX7_feels_3 4 rfl rfl)
theorem dX7_feels_76 : decode cX7_feels 76 = .ok (.bipush 6, 2) := dk_16 6 (dk_at dksX7_feels_3 7 rfl rfl)
theorem dX7_feels_78 : decode cX7_feels 78 = .ok (.aload_n 0, 1) := dk_42 (dk_at dksX7_feels_3 9 rfl rfl)
theorem dX7_feels_79 : decode cX7_feels 79 = .ok (.getfield 7, 3) := dk_180 0 7 (dk_at dksX7_feels_3 10 rfl rfl)
theorem dX7_feels_82 : decode cX7_feels 82 = .ok (.bipush 12, 2) := dk_16 12 (dk_at dksX7_feels_3 13 rfl rfl)
theorem dX7_feels_84 : decode cX7_feels 84 = .ok (.iload_n 2, 1) := dk_28 (dk_at dksX7_feels_3 15 rfl rfl)
theorem dX7_feels_85 : decode cX7_feels 85 = .ok (.iadd, 1) := dk_96 (dk_at dksX7_feels_3 16 rfl rfl)
theorem dX7_feels_86 : decode cX7_feels 86 = .ok (.iaload, 1) := dk_46 (dk_at dksX7_feels_3 17 rfl rfl)
theorem dX7_feels_87 : decode cX7_feels 87 = .ok (.iastore, 1) := dk_79 (dk_at dksX7_feels_3 18 rfl rfl)
theorem dX7_feels_88 : decode cX7_feels 88 = .ok (.aload_n 0, 1) := dk_42 (dk_at dksX7_feels_3 19 rfl rfl)
theorem dX7_feels_89 : decode cX7_feels 89 = .ok (.getfield 59, 3) := dk_180 0 59 (dk_at dksX7_feels_3 20 rfl rfl)
theorem dX7_feels_92 : decode cX7_feels 92 = .ok (.bipush 7, 2) := dk_16 7 (dk_at dksX7_feels_4 0 rfl rfl)
theorem dX7_feels_94 : decode cX7_feels 94 = .ok (.aload_n 0, 1) := dk_42 (dk_at dksX7_feels_4 2 rfl rfl)
theorem dX7_feels_95 : decode cX7_feels 95 = .ok (.getfield 7, 3) := dk_180 0 7 (dk_at dksX7_feels_4 3 rfl rfl)
theorem dX7_feels_98 : decode cX7_feels 98 = .ok (.bipush 110, 2) := dk_16 110 (dk_at dksX7_feels_4 6 rfl rfl)
theorem dX7_feels_100 : decode cX7_feels 100 = .ok (.iaload, 1) := dk_46 (dk_at dksX7_feels_4 8 rfl rfl)
theorem dX7_feels_101 : decode cX7_feels 101 = .ok (.iastore, 1) := dk_79 (dk_at dksX7_feels_4 9 rfl rfl)
theorem dX7_feels_102 : decode cX7_feels 102 = .ok (.aload_n 0, 1) := dk_42 (dk_at dksX7_feels_4 10 rfl rfl)
theorem dX7_feels_103 : decode cX7_feels 103 = .ok (.getfield 59, 3) := dk_180 0 59 (dk_at dksX7_feels_4 11 rfl rfl)
theorem dX7_feels_106 : decode cX7_feels 106 = .ok (.bipush 8, 2) := dk_16 8 (dk_at dksX7_feels_4 14 rfl rfl)
theorem dX7_feels_108 : decode cX7_feels 108 = .ok (.aload_n 0, 1) := dk_42 (dk_at dksX7_feels_4 16 rfl rfl)
theorem dX7_feels_109 : decode cX7_feels 109 = .ok (.getfield 7, 3) := dk_180 0 7 (dk_at dksX7_feels_4 17 rfl rfl)
theorem dX7_feels_112 : decode cX7_feels 112 = .ok (.bipush 36, 2) := dk_16 36 (dk_at dksX7_feels_4 20 rfl rfl)
theorem dX7_feels_114 : decode cX7_feels 114 = .ok (.iload_n 1, 1) := dk_27 (dk_at dksX7_feels_4 22 rfl rfl)
theorem dX7_feels_115 : decode cX7_feels 115 = .ok (.iadd, 1) := dk_96 (dk_at dksX7_feels_4 23 rfl rfl)
theorem dX7_feels_116 : decode cX7_feels 116 = .ok (.iaload, 1) := dk_46 (dk_at dksX7_feels_5 0 rfl rfl)
theorem dX7_feels_117 : decode cX7_feels 117 = .ok (.iastore, 1) := dk_79 (dk_at dksX7_feels_5 1 rfl rfl)
theorem dX7_feels_118 : decode cX7_feels 118 = .ok (.aload_n 0, 1) := dk_42 (dk_at dksX7_feels_5 2 rfl rfl)
theorem dX7_feels_119 : decode cX7_feels 119 = .ok (.getfield 59, 3) := dk_180 0 59 (dk_at dksX7_feels_5 3 rfl rfl)
theorem dX7_feels_122 : decode cX7_feels 122 = .ok (.bipush 9, 2) := dk_16 9 (dk_at dksX7_feels_5 6 rfl rfl)
theorem dX7_feels_124 : decode cX7_feels 124 = .ok (.aload_n 0, 1) := dk_42 (dk_at dksX7_feels_5 8 rfl rfl)
theorem dX7_feels_125 : decode cX7_feels 125 = .ok (.getfield 7, 3) := dk_180 0 7 (dk_at dksX7_feels_5 9 rfl rfl)
theorem dX7_feels_128 : decode cX7_feels 128 = .ok (.iconst 0, 1) := dk_3 (dk_at dksX7_feels_5 12 rfl rfl)
theorem dX7_feels_129 : decode cX7_feels 129 = .ok (.iload_n 1, 1) := dk_27 (dk_at dksX7_feels_5 13 rfl rfl)
theorem dX7_feels_130 : decode cX7_feels 130 = .ok (.iadd, 1) := dk_96 (dk_at dksX7_feels_5 14 rfl rfl)
theorem dX7_feels_131 : decode cX7_feels 131 = .ok (.iaload, 1) := dk_46 (dk_at dksX7_feels_5 15 rfl rfl)
theorem dX7_feels_132 : decode cX7_feels 132 = .ok (.iastore, 1) := dk_79 (dk_at dksX7_feels_5 16 rfl rfl)
theorem dX7_feels_133 : decode cX7_feels 133 = .ok (.aload_n 0, 1) := dk_42 (dk_at dksX7_feels_5 17 rfl rfl)
theorem dX7_feels_134 : decode cX7_feels 134 = .ok (.getfield 59, 3) := dk_180 0 59 (dk_at dksX7_feels_5 18 rfl rfl)
theorem dX7_feels_137 : decode cX7_feels 137 = .ok (.bipush 10, 2) := dk_16 10 (dk_at dksX7_feels_5 21 rfl rfl)
theorem dX7_feels_139 : decode cX7_feels 139 = .ok (.aload_n 0, 1) := dk_42 (dk_at dksX7_feels_5 23 rfl rfl)
theorem dX7_feels_140 : decode cX7_feels 140 = .ok (.getfield 7, 3) := dk_180 0 7 (dk_at dksX7_feels_6 0 rfl rfl)
theorem dX7_feels_143 : decode cX7_feels 143 = .ok (.iconst 0, 1) := dk_3 (dk_at dksX7_feels_6 3 rfl rfl)
theorem dX7_feels_144 : decode cX7_feels 144 = .ok (.iload_n 2, 1) := dk_28 (dk_at dksX7_feels_6 4 rfl rfl)
theorem dX7_feels_145 : decode cX7_feels 145 = .ok (.iadd, 1) := dk_96 (dk_at dksX7_feels_6 5 rfl rfl)
theorem dX7_feels_146 : decode cX7_feels 146 = .ok (.iaload, 1) := dk_46 (dk_at dksX7_feels_6 6 rfl rfl)
theorem dX7_feels_147 : decode cX7_feels 147 = .ok (.iastore, 1) := dk_79 (dk_at dksX7_feels_6 7 rfl rfl)
theorem dX7_feels_148 : decode cX7_feels 148 = .ok (.return_, 1) := dk_177 (dk_at dksX7_feels_6 8 rfl rfl)
abbrev cX7_bits : ByteArray := prog_21_method_7_code
def yX7_bits : MethodName := ⟨RX7, "bits", "(I)I"⟩
def dkwX7_bits_1 : List UInt8 := [27, 172]
abbrev dktX7_bits_1 : List UInt8 := dkwX7_bits_1 ++ []
def dkwX7_bits_0 : List UInt8 := [3, 60, 3, 61, 28, 16, 12, 162, 0, 17, 27, 26, 28, 122, 4, 126, 96, 60, 132, 2, 1, 167, 255, 239]
abbrev dktX7_bits_0 : List UInt8 := dkwX7_bits_0 ++ dktX7_bits_1
theorem dksX7_bits_0 : cX7_bits.data.toList.drop 0 = dktX7_bits_0 := by decide +kernel
theorem dksX7_bits_1 : cX7_bits.data.toList.drop 24 = dktX7_bits_1 := dk_seg dksX7_bits_0 24 rfl rfl
theorem dX7_bits_0 : decode cX7_bits 0 = .ok (.iconst 0, 1) := dk_3 (dk_at dksX7_bits_0 0 rfl rfl)
theorem dX7_bits_1 : decode cX7_bits 1 = .ok (.istore_n 1, 1) := dk_60 (dk_at dksX7_bits_0 1 rfl rfl)
theorem dX7_bits_2 : decode cX7_bits 2 = .ok (.iconst 0, 1) := dk_3 (dk_at dksX7_bits_0 2 rfl rfl)
theorem dX7_bits_3 : decode cX7_bits 3 = .ok (.istore_n 2, 1) := dk_61 (dk_at dksX7_bits_0 3 rfl rfl)
theorem dX7_bits_4 : decode cX7_bits 4 = .ok (.iload_n 2, 1) := dk_28 (dk_at dksX7_bits_0 4 rfl rfl)
theorem dX7_bits_5 : decode cX7_bits 5 = .ok (.bipush 12, 2) := dk_16 12 (dk_at dksX7_bits_0 5 rfl rfl)
theorem dX7_bits_7 : decode cX7_bits 7 = .ok (.if_icmp .ge 17, 3) := dk_162 0 17 (dk_at dksX7_bits_0 7 rfl rfl)
theorem dX7_bits_10 : decode cX7_bits 10 = .ok (.iload_n 1, 1) := dk_27 (dk_at dksX7_bits_0 10 rfl rfl)
theorem dX7_bits_11 : decode cX7_bits 11 = .ok (.iload_n 0, 1) := dk_26 (dk_at dksX7_bits_0 11 rfl rfl)
theorem dX7_bits_12 : decode cX7_bits 12 = .ok (.iload_n 2, 1) := dk_28 (dk_at dksX7_bits_0 12 rfl rfl)
theorem dX7_bits_13 : decode cX7_bits 13 = .ok (.ishr, 1) := dk_122 (dk_at dksX7_bits_0 13 rfl rfl)
theorem dX7_bits_14 : decode cX7_bits 14 = .ok (.iconst 1, 1) := dk_4 (dk_at dksX7_bits_0 14 rfl rfl)
theorem dX7_bits_15 : decode cX7_bits 15 = .ok (.iand, 1) := dk_126 (dk_at dksX7_bits_0 15 rfl rfl)
theorem dX7_bits_16 : decode cX7_bits 16 = .ok (.iadd, 1) := dk_96 (dk_at dksX7_bits_0 16 rfl rfl)
theorem dX7_bits_17 : decode cX7_bits 17 = .ok (.istore_n 1, 1) := dk_60 (dk_at dksX7_bits_0 17 rfl rfl)
theorem dX7_bits_18 : decode cX7_bits 18 = .ok (.iinc 2 1, 3) := dk_132 2 1 (dk_at dksX7_bits_0 18 rfl rfl)
theorem dX7_bits_21 : decode cX7_bits 21 = .ok (.goto (-17), 3) := dk_167 255 239 (dk_at dksX7_bits_0 21 rfl rfl)
theorem dX7_bits_24 : decode cX7_bits 24 = .ok (.iload_n 1, 1) := dk_27 (dk_at dksX7_bits_1 0 rfl rfl)
theorem dX7_bits_25 : decode cX7_bits 25 = .ok (.ireturn, 1) := dk_172 (dk_at dksX7_bits_1 1 rfl rfl)
abbrev cX7_byLaw : ByteArray := prog_21_method_45_code
def yX7_byLaw : MethodName := ⟨RX7, "byLaw", "(II)I"⟩
def dkwX7_byLaw_3 : List UInt8 := [167, 0, 15, 21, 4, 28, 164, 0, 7, 28, 167, 0, 5, 21, 4, 172, 132, 3, 1, 167, 255, 172, 3, 172]
abbrev dktX7_byLaw_3 : List UInt8 := dkwX7_byLaw_3 ++ []
def dkwX7_byLaw_2 : List UInt8 := [180, 0, 47, 29, 46, 42, 180, 0, 50, 29, 46, 182, 0, 232, 54, 4, 21, 4, 156, 0, 7, 3]
abbrev dktX7_byLaw_2 : List UInt8 := dkwX7_byLaw_2 ++ dktX7_byLaw_3
def dkwX7_byLaw_1 : List UInt8 := [180, 0, 50, 29, 46, 42, 180, 0, 53, 29, 46, 182, 0, 232, 4, 159, 0, 6, 167, 0, 43, 42, 42]
abbrev dktX7_byLaw_1 : List UInt8 := dkwX7_byLaw_1 ++ dktX7_byLaw_2
def dkwX7_byLaw_0 : List UInt8 := [3, 62, 29, 42, 180, 0, 225, 162, 0, 82, 42, 180, 0, 44, 29, 46, 27, 160, 0, 66, 42, 42]
abbrev dktX7_byLaw_0 : List UInt8 := dkwX7_byLaw_0 ++ dktX7_byLaw_1
theorem dksX7_byLaw_0 : cX7_byLaw.data.toList.drop 0 = dktX7_byLaw_0 := by decide +kernel
theorem dksX7_byLaw_1 : cX7_byLaw.data.toList.drop 22 = dktX7_byLaw_1 := dk_seg dksX7_byLaw_0 22 rfl rfl
theorem dksX7_byLaw_2 : cX7_byLaw.data.toList.drop 45 = dktX7_byLaw_2 := dk_seg dksX7_byLaw_1 23 rfl rfl
theorem dksX7_byLaw_3 : cX7_byLaw.data.toList.drop 67 = dktX7_byLaw_3 := dk_seg dksX7_byLaw_2 22 rfl rfl
theorem dX7_byLaw_0 : decode cX7_byLaw 0 = .ok (.iconst 0, 1) := dk_3 (dk_at dksX7_byLaw_0 0 rfl rfl)
theorem dX7_byLaw_1 : decode cX7_byLaw 1 = .ok (.istore_n 3, 1) := dk_62 (dk_at dksX7_byLaw_0 1 rfl rfl)
theorem dX7_byLaw_2 : decode cX7_byLaw 2 = .ok (.iload_n 3, 1) := dk_29 (dk_at dksX7_byLaw_0 2 rfl rfl)
theorem dX7_byLaw_3 : decode cX7_byLaw 3 = .ok (.aload_n 0, 1) := dk_42 (dk_at dksX7_byLaw_0 3 rfl rfl)
theorem dX7_byLaw_4 : decode cX7_byLaw 4 = .ok (.getfield 225, 3) := dk_180 0 225 (dk_at dksX7_byLaw_0 4 rfl rfl)
theorem dX7_byLaw_7 : decode cX7_byLaw 7 = .ok (.if_icmp .ge 82, 3) := dk_162 0 82 (dk_at dksX7_byLaw_0 7 rfl rfl)
theorem dX7_byLaw_10 : decode cX7_byLaw 10 = .ok (.aload_n 0, 1) := dk_42 (dk_at dksX7_byLaw_0 10 rfl rfl)
theorem dX7_byLaw_11 : decode cX7_byLaw 11 = .ok (.getfield 44, 3) := dk_180 0 44 (dk_at dksX7_byLaw_0 11 rfl rfl)
theorem dX7_byLaw_14 : decode cX7_byLaw 14 = .ok (.iload_n 3, 1) := dk_29 (dk_at dksX7_byLaw_0 14 rfl rfl)
theorem dX7_byLaw_15 : decode cX7_byLaw 15 = .ok (.iaload, 1) := dk_46 (dk_at dksX7_byLaw_0 15 rfl rfl)
theorem dX7_byLaw_16 : decode cX7_byLaw 16 = .ok (.iload_n 1, 1) := dk_27 (dk_at dksX7_byLaw_0 16 rfl rfl)
theorem dX7_byLaw_17 : decode cX7_byLaw 17 = .ok (.if_icmp .ne 66, 3) := dk_160 0 66 (dk_at dksX7_byLaw_0 17 rfl rfl)
theorem dX7_byLaw_20 : decode cX7_byLaw 20 = .ok (.aload_n 0, 1) := dk_42 (dk_at dksX7_byLaw_0 20 rfl rfl)
theorem dX7_byLaw_21 : decode cX7_byLaw 21 = .ok (.aload_n 0, 1) := dk_42 (dk_at dksX7_byLaw_0 21 rfl rfl)
theorem dX7_byLaw_22 : decode cX7_byLaw 22 = .ok (.getfield 50, 3) := dk_180 0 50 (dk_at dksX7_byLaw_1 0 rfl rfl)
theorem dX7_byLaw_25 : decode cX7_byLaw 25 = .ok (.iload_n 3, 1) := dk_29 (dk_at dksX7_byLaw_1 3 rfl rfl)
theorem dX7_byLaw_26 : decode cX7_byLaw 26 = .ok (.iaload, 1) := dk_46 (dk_at dksX7_byLaw_1 4 rfl rfl)
theorem dX7_byLaw_27 : decode cX7_byLaw 27 = .ok (.aload_n 0, 1) := dk_42 (dk_at dksX7_byLaw_1 5 rfl rfl)
theorem dX7_byLaw_28 : decode cX7_byLaw 28 = .ok (.getfield 53, 3) := dk_180 0 53 (dk_at dksX7_byLaw_1 6 rfl rfl)
theorem dX7_byLaw_31 : decode cX7_byLaw 31 = .ok (.iload_n 3, 1) := dk_29 (dk_at dksX7_byLaw_1 9 rfl rfl)
theorem dX7_byLaw_32 : decode cX7_byLaw 32 = .ok (.iaload, 1) := dk_46 (dk_at dksX7_byLaw_1 10 rfl rfl)
theorem dX7_byLaw_33 : decode cX7_byLaw 33 = .ok (.invokevirtual 232, 3) := dk_182 0 232 (dk_at dksX7_byLaw_1 11 rfl rfl)
theorem dX7_byLaw_36 : decode cX7_byLaw 36 = .ok (.iconst 1, 1) := dk_4 (dk_at dksX7_byLaw_1 14 rfl rfl)
theorem dX7_byLaw_37 : decode cX7_byLaw 37 = .ok (.if_icmp .eq 6, 3) := dk_159 0 6 (dk_at dksX7_byLaw_1 15 rfl rfl)
theorem dX7_byLaw_40 : decode cX7_byLaw 40 = .ok (.goto 43, 3) := dk_167 0 43 (dk_at dksX7_byLaw_1 18 rfl rfl)
theorem dX7_byLaw_43 : decode cX7_byLaw 43 = .ok (.aload_n 0, 1) := dk_42 (dk_at dksX7_byLaw_1 21 rfl rfl)
theorem dX7_byLaw_44 : decode cX7_byLaw 44 = .ok (.aload_n 0, 1) := dk_42 (dk_at dksX7_byLaw_1 22 rfl rfl)
theorem dX7_byLaw_45 : decode cX7_byLaw 45 = .ok (.getfield 47, 3) := dk_180 0 47 (dk_at dksX7_byLaw_2 0 rfl rfl)
theorem dX7_byLaw_48 : decode cX7_byLaw 48 = .ok (.iload_n 3, 1) := dk_29 (dk_at dksX7_byLaw_2 3 rfl rfl)
theorem dX7_byLaw_49 : decode cX7_byLaw 49 = .ok (.iaload, 1) := dk_46 (dk_at dksX7_byLaw_2 4 rfl rfl)
theorem dX7_byLaw_50 : decode cX7_byLaw 50 = .ok (.aload_n 0, 1) := dk_42 (dk_at dksX7_byLaw_2 5 rfl rfl)
theorem dX7_byLaw_51 : decode cX7_byLaw 51 = .ok (.getfield 50, 3) := dk_180 0 50 (dk_at dksX7_byLaw_2 6 rfl rfl)
theorem dX7_byLaw_54 : decode cX7_byLaw 54 = .ok (.iload_n 3, 1) := dk_29 (dk_at dksX7_byLaw_2 9 rfl rfl)
theorem dX7_byLaw_55 : decode cX7_byLaw 55 = .ok (.iaload, 1) := dk_46 (dk_at dksX7_byLaw_2 10 rfl rfl)
theorem dX7_byLaw_56 : decode cX7_byLaw 56 = .ok (.invokevirtual 232, 3) := dk_182 0 232 (dk_at dksX7_byLaw_2 11 rfl rfl)
theorem dX7_byLaw_59 : decode cX7_byLaw 59 = .ok (.istore 4, 2) := dk_54 4 (dk_at dksX7_byLaw_2 14 rfl rfl)
theorem dX7_byLaw_61 : decode cX7_byLaw 61 = .ok (.iload 4, 2) := dk_21 4 (dk_at dksX7_byLaw_2 16 rfl rfl)
theorem dX7_byLaw_63 : decode cX7_byLaw 63 = .ok (.ifCond .ge 7, 3) := dk_156 0 7 (dk_at dksX7_byLaw_2 18 rfl rfl)
theorem dX7_byLaw_66 : decode cX7_byLaw 66 = .ok (.iconst 0, 1) := dk_3 (dk_at dksX7_byLaw_2 21 rfl rfl)
theorem dX7_byLaw_67 : decode cX7_byLaw 67 = .ok (.goto 15, 3) := dk_167 0 15 (dk_at dksX7_byLaw_3 0 rfl rfl)
theorem dX7_byLaw_70 : decode cX7_byLaw 70 = .ok (.iload 4, 2) := dk_21 4 (dk_at dksX7_byLaw_3 3 rfl rfl)
theorem dX7_byLaw_72 : decode cX7_byLaw 72 = .ok (.iload_n 2, 1) := dk_28 (dk_at dksX7_byLaw_3 5 rfl rfl)
theorem dX7_byLaw_73 : decode cX7_byLaw 73 = .ok (.if_icmp .le 7, 3) := dk_164 0 7 (dk_at dksX7_byLaw_3 6 rfl rfl)
theorem dX7_byLaw_76 : decode cX7_byLaw 76 = .ok (.iload_n 2, 1) := dk_28 (dk_at dksX7_byLaw_3 9 rfl rfl)
theorem dX7_byLaw_77 : decode cX7_byLaw 77 = .ok (.goto 5, 3) := dk_167 0 5 (dk_at dksX7_byLaw_3 10 rfl rfl)
theorem dX7_byLaw_80 : decode cX7_byLaw 80 = .ok (.iload 4, 2) := dk_21 4 (dk_at dksX7_byLaw_3 13 rfl rfl)
theorem dX7_byLaw_82 : decode cX7_byLaw 82 = .ok (.ireturn, 1) := dk_172 (dk_at dksX7_byLaw_3 15 rfl rfl)
theorem dX7_byLaw_83 : decode cX7_byLaw 83 = .ok (.iinc 3 1, 3) := dk_132 3 1 (dk_at dksX7_byLaw_3 16 rfl rfl)
theorem dX7_byLaw_86 : decode cX7_byLaw 86 = .ok (.goto (-84), 3) := dk_167 255 172 (dk_at dksX7_byLaw_3 19 rfl rfl)
theorem dX7_byLaw_89 : decode cX7_byLaw 89 = .ok (.iconst 0, 1) := dk_3 (dk_at dksX7_byLaw_3 22 rfl rfl)
theorem dX7_byLaw_90 : decode cX7_byLaw 90 = .ok (.ireturn, 1) := dk_172 (dk_at dksX7_byLaw_3 23 rfl rfl)
abbrev cX7_comesTo : ByteArray := prog_21_method_44_code
def yX7_comesTo : MethodName := ⟨RX7, "comesTo", "(II)I"⟩
def dkwX7_comesTo_10 : List UInt8 := [3, 46, 172]
abbrev dktX7_comesTo_10 : List UInt8 := dkwX7_comesTo_10 ++ []
def dkwX7_comesTo_9 : List UInt8 := [180, 0, 56, 29, 4, 100, 46, 42, 180, 0, 56, 29, 46, 184, 0, 228, 79, 167, 255, 42, 42, 180, 0, 56]
abbrev dktX7_comesTo_9 : List UInt8 := dkwX7_comesTo_9 ++ dktX7_comesTo_10
def dkwX7_comesTo_8 : List UInt8 := [160, 0, 14, 42, 180, 0, 56, 29, 46, 154, 0, 5, 3, 172, 42, 180, 0, 56, 29, 4, 100, 21, 6, 42]
abbrev dktX7_comesTo_8 : List UInt8 := dkwX7_comesTo_8 ++ dktX7_comesTo_9
def dkwX7_comesTo_7 : List UInt8 := [167, 0, 65, 29, 4, 100, 62, 167, 0, 58, 29, 4, 100, 62, 21, 6, 8, 159, 0, 10, 21, 6, 16, 6]
abbrev dktX7_comesTo_7 : List UInt8 := dkwX7_comesTo_7 ++ dktX7_comesTo_8
def dkwX7_comesTo_6 : List UInt8 := [100, 46, 21, 6, 16, 12, 160, 0, 7, 4, 167, 0, 4, 3, 160, 0, 13, 21, 4, 21, 7, 96, 54, 5]
abbrev dktX7_comesTo_6 : List UInt8 := dkwX7_comesTo_6 ++ dktX7_comesTo_7
def dkwX7_comesTo_5 : List UInt8 := [79, 167, 0, 112, 21, 6, 16, 11, 159, 0, 10, 21, 6, 16, 12, 160, 0, 43, 42, 180, 0, 56, 29, 4]
abbrev dktX7_comesTo_5 : List UInt8 := dkwX7_comesTo_5 ++ dktX7_comesTo_6
def dkwX7_comesTo_4 : List UInt8 := [21, 6, 16, 10, 160, 0, 24, 42, 180, 0, 56, 29, 4, 100, 4, 42, 180, 0, 56, 29, 4, 100, 46, 100]
abbrev dktX7_comesTo_4 : List UInt8 := dkwX7_comesTo_4 ++ dktX7_comesTo_5
def dkwX7_comesTo_3 : List UInt8 := [154, 0, 8, 21, 7, 167, 0, 10, 42, 180, 0, 59, 21, 7, 46, 79, 29, 4, 96, 62, 167, 0, 140]
abbrev dktX7_comesTo_3 : List UInt8 := dkwX7_comesTo_3 ++ dktX7_comesTo_4
def dkwX7_comesTo_2 : List UInt8 := [21, 5, 4, 96, 54, 5, 21, 6, 153, 0, 9, 21, 6, 4, 160, 0, 33, 42, 180, 0, 56, 29, 21, 6]
abbrev dktX7_comesTo_2 : List UInt8 := dkwX7_comesTo_2 ++ dktX7_comesTo_3
def dkwX7_comesTo_1 : List UInt8 := [180, 0, 41, 21, 5, 46, 18, 159, 108, 54, 6, 42, 180, 0, 41, 21, 5, 46, 18, 159, 112, 54, 7]
abbrev dktX7_comesTo_1 : List UInt8 := dkwX7_comesTo_1 ++ dktX7_comesTo_2
def dkwX7_comesTo_0 : List UInt8 := [3, 62, 17, 1, 4, 27, 17, 1, 4, 108, 104, 54, 4, 27, 54, 5, 21, 5, 28, 162, 0, 214, 42]
abbrev dktX7_comesTo_0 : List UInt8 := dkwX7_comesTo_0 ++ dktX7_comesTo_1
theorem dksX7_comesTo_0 : cX7_comesTo.data.toList.drop 0 = dktX7_comesTo_0 := by decide +kernel
theorem dksX7_comesTo_1 : cX7_comesTo.data.toList.drop 23 = dktX7_comesTo_1 := dk_seg dksX7_comesTo_0 23 rfl rfl
theorem dksX7_comesTo_2 : cX7_comesTo.data.toList.drop 46 = dktX7_comesTo_2 := dk_seg dksX7_comesTo_1 23 rfl rfl
theorem dksX7_comesTo_3 : cX7_comesTo.data.toList.drop 70 = dktX7_comesTo_3 := dk_seg dksX7_comesTo_2 24 rfl rfl
theorem dksX7_comesTo_4 : cX7_comesTo.data.toList.drop 93 = dktX7_comesTo_4 := dk_seg dksX7_comesTo_3 23 rfl rfl
theorem dksX7_comesTo_5 : cX7_comesTo.data.toList.drop 117 = dktX7_comesTo_5 := dk_seg dksX7_comesTo_4 24 rfl rfl
theorem dksX7_comesTo_6 : cX7_comesTo.data.toList.drop 141 = dktX7_comesTo_6 := dk_seg dksX7_comesTo_5 24 rfl rfl
theorem dksX7_comesTo_7 : cX7_comesTo.data.toList.drop 165 = dktX7_comesTo_7 := dk_seg dksX7_comesTo_6 24 rfl rfl
theorem dksX7_comesTo_8 : cX7_comesTo.data.toList.drop 189 = dktX7_comesTo_8 := dk_seg dksX7_comesTo_7 24 rfl rfl
theorem dksX7_comesTo_9 : cX7_comesTo.data.toList.drop 213 = dktX7_comesTo_9 := dk_seg dksX7_comesTo_8 24 rfl rfl
theorem dksX7_comesTo_10 : cX7_comesTo.data.toList.drop 237 = dktX7_comesTo_10 := dk_seg dksX7_comesTo_9 24 rfl rfl
theorem dX7_comesTo_0 : decode cX7_comesTo 0 = .ok (.iconst 0, 1) := dk_3 (dk_at dksX7_comesTo_0 0 rfl rfl)
theorem dX7_comesTo_1 : decode cX7_comesTo 1 = .ok (.istore_n 3, 1) := dk_62 (dk_at dksX7_comesTo_0 1 rfl rfl)
theorem dX7_comesTo_2 : decode cX7_comesTo 2 = .ok (.sipush 260, 3) := dk_17 1 4 (dk_at dksX7_comesTo_0 2 rfl rfl)
theorem dX7_comesTo_5 : decode cX7_comesTo 5 = .ok (.iload_n 1, 1) := dk_27 (dk_at dksX7_comesTo_0 5 rfl rfl)
theorem dX7_comesTo_6 : decode cX7_comesTo 6 = .ok (.sipush 260, 3) := dk_17 1 4 (dk_at dksX7_comesTo_0 6 rfl rfl)
theorem dX7_comesTo_9 : decode cX7_comesTo 9 = .ok (.idiv, 1) := dk_108 (dk_at dksX7_comesTo_0 9 rfl rfl)
theorem dX7_comesTo_10 : decode cX7_comesTo 10 = .ok (.imul, 1) := dk_104 (dk_at dksX7_comesTo_0 10 rfl rfl)
theorem dX7_comesTo_11 : decode cX7_comesTo 11 = .ok (.istore 4, 2) := dk_54 4 (dk_at dksX7_comesTo_0 11 rfl rfl)
theorem dX7_comesTo_13 : decode cX7_comesTo 13 = .ok (.iload_n 1, 1) := dk_27 (dk_at dksX7_comesTo_0 13 rfl rfl)
theorem dX7_comesTo_14 : decode cX7_comesTo 14 = .ok (.istore 5, 2) := dk_54 5 (dk_at dksX7_comesTo_0 14 rfl rfl)
theorem dX7_comesTo_16 : decode cX7_comesTo 16 = .ok (.iload 5, 2) := dk_21 5 (dk_at dksX7_comesTo_0 16 rfl rfl)
theorem dX7_comesTo_18 : decode cX7_comesTo 18 = .ok (.iload_n 2, 1) := dk_28 (dk_at dksX7_comesTo_0 18 rfl rfl)
theorem dX7_comesTo_19 : decode cX7_comesTo 19 = .ok (.if_icmp .ge 214, 3) := dk_162 0 214 (dk_at dksX7_comesTo_0 19 rfl rfl)
theorem dX7_comesTo_22 : decode cX7_comesTo 22 = .ok (.aload_n 0, 1) := dk_42 (dk_at dksX7_comesTo_0 22 rfl rfl)
theorem dX7_comesTo_23 : decode cX7_comesTo 23 = .ok (.getfield 41, 3) := dk_180 0 41 (dk_at dksX7_comesTo_1 0 rfl rfl)
theorem dX7_comesTo_26 : decode cX7_comesTo 26 = .ok (.iload 5, 2) := dk_21 5 (dk_at dksX7_comesTo_1 3 rfl rfl)
theorem dX7_comesTo_28 : decode cX7_comesTo 28 = .ok (.iaload, 1) := dk_46 (dk_at dksX7_comesTo_1 5 rfl rfl)
theorem dX7_comesTo_29 : decode cX7_comesTo 29 = .ok (.ldc 159, 2) := dk_18 159 (dk_at dksX7_comesTo_1 6 rfl rfl)
theorem dX7_comesTo_31 : decode cX7_comesTo 31 = .ok (.idiv, 1) := dk_108 (dk_at dksX7_comesTo_1 8 rfl rfl)
theorem dX7_comesTo_32 : decode cX7_comesTo 32 = .ok (.istore 6, 2) := dk_54 6 (dk_at dksX7_comesTo_1 9 rfl rfl)
theorem dX7_comesTo_34 : decode cX7_comesTo 34 = .ok (.aload_n 0, 1) := dk_42 (dk_at dksX7_comesTo_1 11 rfl rfl)
theorem dX7_comesTo_35 : decode cX7_comesTo 35 = .ok (.getfield 41, 3) := dk_180 0 41 (dk_at dksX7_comesTo_1 12 rfl rfl)
theorem dX7_comesTo_38 : decode cX7_comesTo 38 = .ok (.iload 5, 2) := dk_21 5 (dk_at dksX7_comesTo_1 15 rfl rfl)
theorem dX7_comesTo_40 : decode cX7_comesTo 40 = .ok (.iaload, 1) := dk_46 (dk_at dksX7_comesTo_1 17 rfl rfl)
theorem dX7_comesTo_41 : decode cX7_comesTo 41 = .ok (.ldc 159, 2) := dk_18 159 (dk_at dksX7_comesTo_1 18 rfl rfl)
theorem dX7_comesTo_43 : decode cX7_comesTo 43 = .ok (.irem, 1) := dk_112 (dk_at dksX7_comesTo_1 20 rfl rfl)
theorem dX7_comesTo_44 : decode cX7_comesTo 44 = .ok (.istore 7, 2) := dk_54 7 (dk_at dksX7_comesTo_1 21 rfl rfl)
theorem dX7_comesTo_46 : decode cX7_comesTo 46 = .ok (.iload 5, 2) := dk_21 5 (dk_at dksX7_comesTo_2 0 rfl rfl)
theorem dX7_comesTo_48 : decode cX7_comesTo 48 = .ok (.iconst 1, 1) := dk_4 (dk_at dksX7_comesTo_2 2 rfl rfl)
theorem dX7_comesTo_49 : decode cX7_comesTo 49 = .ok (.iadd, 1) := dk_96 (dk_at dksX7_comesTo_2 3 rfl rfl)
theorem dX7_comesTo_50 : decode cX7_comesTo 50 = .ok (.istore 5, 2) := dk_54 5 (dk_at dksX7_comesTo_2 4 rfl rfl)
theorem dX7_comesTo_52 : decode cX7_comesTo 52 = .ok (.iload 6, 2) := dk_21 6 (dk_at dksX7_comesTo_2 6 rfl rfl)
theorem dX7_comesTo_54 : decode cX7_comesTo 54 = .ok (.ifCond .eq 9, 3) := dk_153 0 9 (dk_at dksX7_comesTo_2 8 rfl rfl)
theorem dX7_comesTo_57 : decode cX7_comesTo 57 = .ok (.iload 6, 2) := dk_21 6 (dk_at dksX7_comesTo_2 11 rfl rfl)
theorem dX7_comesTo_59 : decode cX7_comesTo 59 = .ok (.iconst 1, 1) := dk_4 (dk_at dksX7_comesTo_2 13 rfl rfl)
theorem dX7_comesTo_60 : decode cX7_comesTo 60 = .ok (.if_icmp .ne 33, 3) := dk_160 0 33 (dk_at dksX7_comesTo_2 14 rfl rfl)
theorem dX7_comesTo_63 : decode cX7_comesTo 63 = .ok (.aload_n 0, 1) := dk_42 (dk_at dksX7_comesTo_2 17 rfl rfl)
theorem dX7_comesTo_64 : decode cX7_comesTo 64 = .ok (.getfield 56, 3) := dk_180 0 56 (dk_at dksX7_comesTo_2 18 rfl rfl)
theorem dX7_comesTo_67 : decode cX7_comesTo 67 = .ok (.iload_n 3, 1) := dk_29 (dk_at dksX7_comesTo_2 21 rfl rfl)
theorem dX7_comesTo_68 : decode cX7_comesTo 68 = .ok (.iload 6, 2) := dk_21 6 (dk_at dksX7_comesTo_2 22 rfl rfl)
theorem dX7_comesTo_70 : decode cX7_comesTo 70 = .ok (.ifCond .ne 8, 3) := dk_154 0 8 (dk_at dksX7_comesTo_3 0 rfl rfl)
theorem dX7_comesTo_73 : decode cX7_comesTo 73 = .ok (.iload 7, 2) := dk_21 7 (dk_at dksX7_comesTo_3 3 rfl rfl)
theorem dX7_comesTo_75 : decode cX7_comesTo 75 = .ok (.goto 10, 3) := dk_167 0 10 (dk_at dksX7_comesTo_3 5 rfl rfl)
theorem dX7_comesTo_78 : decode cX7_comesTo 78 = .ok (.aload_n 0, 1) := dk_42 (dk_at dksX7_comesTo_3 8 rfl rfl)
theorem dX7_comesTo_79 : decode cX7_comesTo 79 = .ok (.getfield 59, 3) := dk_180 0 59 (dk_at dksX7_comesTo_3 9 rfl rfl)
theorem dX7_comesTo_82 : decode cX7_comesTo 82 = .ok (.iload 7, 2) := dk_21 7 (dk_at dksX7_comesTo_3 12 rfl rfl)
theorem dX7_comesTo_84 : decode cX7_comesTo 84 = .ok (.iaload, 1) := dk_46 (dk_at dksX7_comesTo_3 14 rfl rfl)
theorem dX7_comesTo_85 : decode cX7_comesTo 85 = .ok (.iastore, 1) := dk_79 (dk_at dksX7_comesTo_3 15 rfl rfl)
theorem dX7_comesTo_86 : decode cX7_comesTo 86 = .ok (.iload_n 3, 1) := dk_29 (dk_at dksX7_comesTo_3 16 rfl rfl)
theorem dX7_comesTo_87 : decode cX7_comesTo 87 = .ok (.iconst 1, 1) := dk_4 (dk_at dksX7_comesTo_3 17 rfl rfl)
theorem dX7_comesTo_88 : decode cX7_comesTo 88 = .ok (.iadd, 1) := dk_96 (dk_at dksX7_comesTo_3 18 rfl rfl)
theorem dX7_comesTo_89 : decode cX7_comesTo 89 = .ok (.istore_n 3, 1) := dk_62 (dk_at dksX7_comesTo_3 19 rfl rfl)
theorem dX7_comesTo_90 : decode cX7_comesTo 90 = .ok (.goto 140, 3) := dk_167 0 140 (dk_at dksX7_comesTo_3 20 rfl rfl)
theorem dX7_comesTo_93 : decode cX7_comesTo 93 = .ok (.iload 6, 2) := dk_21 6 (dk_at dksX7_comesTo_4 0 rfl rfl)
theorem dX7_comesTo_95 : decode cX7_comesTo 95 = .ok (.bipush 10, 2) := dk_16 10 (dk_at dksX7_comesTo_4 2 rfl rfl)
theorem dX7_comesTo_97 : decode cX7_comesTo 97 = .ok (.if_icmp .ne 24, 3) := dk_160 0 24 (dk_at dksX7_comesTo_4 4 rfl rfl)
theorem dX7_comesTo_100 : decode cX7_comesTo 100 = .ok (.aload_n 0, 1) := dk_42 (dk_at dksX7_comesTo_4 7 rfl rfl)
theorem dX7_comesTo_101 : decode cX7_comesTo 101 = .ok (.getfield 56, 3) := dk_180 0 56 (dk_at dksX7_comesTo_4 8 rfl rfl)
theorem dX7_comesTo_104 : decode cX7_comesTo 104 = .ok (.iload_n 3, 1) := dk_29 (dk_at dksX7_comesTo_4 11 rfl rfl)
theorem dX7_comesTo_105 : decode cX7_comesTo 105 = .ok (.iconst 1, 1) := dk_4 (dk_at dksX7_comesTo_4 12 rfl rfl)
theorem dX7_comesTo_106 : decode cX7_comesTo 106 = .ok (.isub, 1) := dk_100 (dk_at dksX7_comesTo_4 13 rfl rfl)
theorem dX7_comesTo_107 : decode cX7_comesTo 107 = .ok (.iconst 1, 1) := dk_4 (dk_at dksX7_comesTo_4 14 rfl rfl)
theorem dX7_comesTo_108 : decode cX7_comesTo 108 = .ok (.aload_n 0, 1) := dk_42 (dk_at dksX7_comesTo_4 15 rfl rfl)
theorem dX7_comesTo_109 : decode cX7_comesTo 109 = .ok (.getfield 56, 3) := dk_180 0 56 (dk_at dksX7_comesTo_4 16 rfl rfl)
theorem dX7_comesTo_112 : decode cX7_comesTo 112 = .ok (.iload_n 3, 1) := dk_29 (dk_at dksX7_comesTo_4 19 rfl rfl)
theorem dX7_comesTo_113 : decode cX7_comesTo 113 = .ok (.iconst 1, 1) := dk_4 (dk_at dksX7_comesTo_4 20 rfl rfl)
theorem dX7_comesTo_114 : decode cX7_comesTo 114 = .ok (.isub, 1) := dk_100 (dk_at dksX7_comesTo_4 21 rfl rfl)
theorem dX7_comesTo_115 : decode cX7_comesTo 115 = .ok (.iaload, 1) := dk_46 (dk_at dksX7_comesTo_4 22 rfl rfl)
theorem dX7_comesTo_116 : decode cX7_comesTo 116 = .ok (.isub, 1) := dk_100 (dk_at dksX7_comesTo_4 23 rfl rfl)
theorem dX7_comesTo_117 : decode cX7_comesTo 117 = .ok (.iastore, 1) := dk_79 (dk_at dksX7_comesTo_5 0 rfl rfl)
theorem dX7_comesTo_118 : decode cX7_comesTo 118 = .ok (.goto 112, 3) := dk_167 0 112 (dk_at dksX7_comesTo_5 1 rfl rfl)
theorem dX7_comesTo_121 : decode cX7_comesTo 121 = .ok (.iload 6, 2) := dk_21 6 (dk_at dksX7_comesTo_5 4 rfl rfl)
theorem dX7_comesTo_123 : decode cX7_comesTo 123 = .ok (.bipush 11, 2) := dk_16 11 (dk_at dksX7_comesTo_5 6 rfl rfl)
theorem dX7_comesTo_125 : decode cX7_comesTo 125 = .ok (.if_icmp .eq 10, 3) := dk_159 0 10 (dk_at dksX7_comesTo_5 8 rfl rfl)
theorem dX7_comesTo_128 : decode cX7_comesTo 128 = .ok (.iload 6, 2) := dk_21 6 (dk_at dksX7_comesTo_5 11 rfl rfl)
theorem dX7_comesTo_130 : decode cX7_comesTo 130 = .ok (.bipush 12, 2) := dk_16 12 (dk_at dksX7_comesTo_5 13 rfl rfl)
theorem dX7_comesTo_132 : decode cX7_comesTo 132 = .ok (.if_icmp .ne 43, 3) := dk_160 0 43 (dk_at dksX7_comesTo_5 15 rfl rfl)
theorem dX7_comesTo_135 : decode cX7_comesTo 135 = .ok (.aload_n 0, 1) := dk_42 (dk_at dksX7_comesTo_5 18 rfl rfl)
theorem dX7_comesTo_136 : decode cX7_comesTo 136 = .ok (.getfield 56, 3) := dk_180 0 56 (dk_at dksX7_comesTo_5 19 rfl rfl)
theorem dX7_comesTo_139 : decode cX7_comesTo 139 = .ok (.iload_n 3, 1) := dk_29 (dk_at dksX7_comesTo_5 22 rfl rfl)
theorem dX7_comesTo_140 : decode cX7_comesTo 140 = .ok (.iconst 1, 1) := dk_4 (dk_at dksX7_comesTo_5 23 rfl rfl)
theorem dX7_comesTo_141 : decode cX7_comesTo 141 = .ok (.isub, 1) := dk_100 (dk_at dksX7_comesTo_6 0 rfl rfl)
theorem dX7_comesTo_142 : decode cX7_comesTo 142 = .ok (.iaload, 1) := dk_46 (dk_at dksX7_comesTo_6 1 rfl rfl)
theorem dX7_comesTo_143 : decode cX7_comesTo 143 = .ok (.iload 6, 2) := dk_21 6 (dk_at dksX7_comesTo_6 2 rfl rfl)
theorem dX7_comesTo_145 : decode cX7_comesTo 145 = .ok (.bipush 12, 2) := dk_16 12 (dk_at dksX7_comesTo_6 4 rfl rfl)
theorem dX7_comesTo_147 : decode cX7_comesTo 147 = .ok (.if_icmp .ne 7, 3) := dk_160 0 7 (dk_at dksX7_comesTo_6 6 rfl rfl)
theorem dX7_comesTo_150 : decode cX7_comesTo 150 = .ok (.iconst 1, 1) := dk_4 (dk_at dksX7_comesTo_6 9 rfl rfl)
theorem dX7_comesTo_151 : decode cX7_comesTo 151 = .ok (.goto 4, 3) := dk_167 0 4 (dk_at dksX7_comesTo_6 10 rfl rfl)
theorem dX7_comesTo_154 : decode cX7_comesTo 154 = .ok (.iconst 0, 1) := dk_3 (dk_at dksX7_comesTo_6 13 rfl rfl)
theorem dX7_comesTo_155 : decode cX7_comesTo 155 = .ok (.if_icmp .ne 13, 3) := dk_160 0 13 (dk_at dksX7_comesTo_6 14 rfl rfl)
theorem dX7_comesTo_158 : decode cX7_comesTo 158 = .ok (.iload 4, 2) := dk_21 4 (dk_at dksX7_comesTo_6 17 rfl rfl)
theorem dX7_comesTo_160 : decode cX7_comesTo 160 = .ok (.iload 7, 2) := dk_21 7 (dk_at dksX7_comesTo_6 19 rfl rfl)
theorem dX7_comesTo_162 : decode cX7_comesTo 162 = .ok (.iadd, 1) := dk_96 (dk_at dksX7_comesTo_6 21 rfl rfl)
theorem dX7_comesTo_163 : decode cX7_comesTo 163 = .ok (.istore 5, 2) := dk_54 5 (dk_at dksX7_comesTo_6 22 rfl rfl)
theorem dX7_comesTo_165 : decode cX7_comesTo 165 = .ok (.goto 65, 3) := dk_167 0 65 (dk_at dksX7_comesTo_7 0 rfl rfl)
theorem dX7_comesTo_168 : decode cX7_comesTo 168 = .ok (.iload_n 3, 1) := dk_29 (dk_at dksX7_comesTo_7 3 rfl rfl)
theorem dX7_comesTo_169 : decode cX7_comesTo 169 = .ok (.iconst 1, 1) := dk_4 (dk_at dksX7_comesTo_7 4 rfl rfl)
theorem dX7_comesTo_170 : decode cX7_comesTo 170 = .ok (.isub, 1) := dk_100 (dk_at dksX7_comesTo_7 5 rfl rfl)
theorem dX7_comesTo_171 : decode cX7_comesTo 171 = .ok (.istore_n 3, 1) := dk_62 (dk_at dksX7_comesTo_7 6 rfl rfl)
theorem dX7_comesTo_172 : decode cX7_comesTo 172 = .ok (.goto 58, 3) := dk_167 0 58 (dk_at dksX7_comesTo_7 7 rfl rfl)
theorem dX7_comesTo_175 : decode cX7_comesTo 175 = .ok (.iload_n 3, 1) := dk_29 (dk_at dksX7_comesTo_7 10 rfl rfl)
theorem dX7_comesTo_176 : decode cX7_comesTo 176 = .ok (.iconst 1, 1) := dk_4 (dk_at dksX7_comesTo_7 11 rfl rfl)
theorem dX7_comesTo_177 : decode cX7_comesTo 177 = .ok (.isub, 1) := dk_100 (dk_at dksX7_comesTo_7 12 rfl rfl)
theorem dX7_comesTo_178 : decode cX7_comesTo 178 = .ok (.istore_n 3, 1) := dk_62 (dk_at dksX7_comesTo_7 13 rfl rfl)
theorem dX7_comesTo_179 : decode cX7_comesTo 179 = .ok (.iload 6, 2) := dk_21 6 (dk_at dksX7_comesTo_7 14 rfl rfl)
theorem dX7_comesTo_181 : decode cX7_comesTo 181 = .ok (.iconst 5, 1) := dk_8 (dk_at dksX7_comesTo_7 16 rfl rfl)
theorem dX7_comesTo_182 : decode cX7_comesTo 182 = .ok (.if_icmp .eq 10, 3) := dk_159 0 10 (dk_at dksX7_comesTo_7 17 rfl rfl)
theorem dX7_comesTo_185 : decode cX7_comesTo 185 = .ok (.iload 6, 2) := dk_21 6 (dk_at dksX7_comesTo_7 20 rfl rfl)
theorem dX7_comesTo_187 : decode cX7_comesTo 187 = .ok (.bipush 6, 2) := dk_16 6 (dk_at dksX7_comesTo_7 22 rfl rfl)
theorem dX7_comesTo_189 : decode cX7_comesTo 189 = .ok (.if_icmp .ne 14, 3) := dk_160 0 14 (dk_at dksX7_comesTo_8 0 rfl rfl)
theorem dX7_comesTo_192 : decode cX7_comesTo 192 = .ok (.aload_n 0, 1) := dk_42 (dk_at dksX7_comesTo_8 3 rfl rfl)
theorem dX7_comesTo_193 : decode cX7_comesTo 193 = .ok (.getfield 56, 3) := dk_180 0 56 (dk_at dksX7_comesTo_8 4 rfl rfl)
theorem dX7_comesTo_196 : decode cX7_comesTo 196 = .ok (.iload_n 3, 1) := dk_29 (dk_at dksX7_comesTo_8 7 rfl rfl)
theorem dX7_comesTo_197 : decode cX7_comesTo 197 = .ok (.iaload, 1) := dk_46 (dk_at dksX7_comesTo_8 8 rfl rfl)
theorem dX7_comesTo_198 : decode cX7_comesTo 198 = .ok (.ifCond .ne 5, 3) := dk_154 0 5 (dk_at dksX7_comesTo_8 9 rfl rfl)
theorem dX7_comesTo_201 : decode cX7_comesTo 201 = .ok (.iconst 0, 1) := dk_3 (dk_at dksX7_comesTo_8 12 rfl rfl)
theorem dX7_comesTo_202 : decode cX7_comesTo 202 = .ok (.ireturn, 1) := dk_172 (dk_at dksX7_comesTo_8 13 rfl rfl)
theorem dX7_comesTo_203 : decode cX7_comesTo 203 = .ok (.aload_n 0, 1) := dk_42 (dk_at dksX7_comesTo_8 14 rfl rfl)
theorem dX7_comesTo_204 : decode cX7_comesTo 204 = .ok (.getfield 56, 3) := dk_180 0 56 (dk_at dksX7_comesTo_8 15 rfl rfl)
theorem dX7_comesTo_207 : decode cX7_comesTo 207 = .ok (.iload_n 3, 1) := dk_29 (dk_at dksX7_comesTo_8 18 rfl rfl)
theorem dX7_comesTo_208 : decode cX7_comesTo 208 = .ok (.iconst 1, 1) := dk_4 (dk_at dksX7_comesTo_8 19 rfl rfl)
theorem dX7_comesTo_209 : decode cX7_comesTo 209 = .ok (.isub, 1) := dk_100 (dk_at dksX7_comesTo_8 20 rfl rfl)
theorem dX7_comesTo_210 : decode cX7_comesTo 210 = .ok (.iload 6, 2) := dk_21 6 (dk_at dksX7_comesTo_8 21 rfl rfl)
theorem dX7_comesTo_212 : decode cX7_comesTo 212 = .ok (.aload_n 0, 1) := dk_42 (dk_at dksX7_comesTo_8 23 rfl rfl)
theorem dX7_comesTo_213 : decode cX7_comesTo 213 = .ok (.getfield 56, 3) := dk_180 0 56 (dk_at dksX7_comesTo_9 0 rfl rfl)
theorem dX7_comesTo_216 : decode cX7_comesTo 216 = .ok (.iload_n 3, 1) := dk_29 (dk_at dksX7_comesTo_9 3 rfl rfl)
theorem dX7_comesTo_217 : decode cX7_comesTo 217 = .ok (.iconst 1, 1) := dk_4 (dk_at dksX7_comesTo_9 4 rfl rfl)
theorem dX7_comesTo_218 : decode cX7_comesTo 218 = .ok (.isub, 1) := dk_100 (dk_at dksX7_comesTo_9 5 rfl rfl)
theorem dX7_comesTo_219 : decode cX7_comesTo 219 = .ok (.iaload, 1) := dk_46 (dk_at dksX7_comesTo_9 6 rfl rfl)
theorem dX7_comesTo_220 : decode cX7_comesTo 220 = .ok (.aload_n 0, 1) := dk_42 (dk_at dksX7_comesTo_9 7 rfl rfl)
theorem dX7_comesTo_221 : decode cX7_comesTo 221 = .ok (.getfield 56, 3) := dk_180 0 56 (dk_at dksX7_comesTo_9 8 rfl rfl)
theorem dX7_comesTo_224 : decode cX7_comesTo 224 = .ok (.iload_n 3, 1) := dk_29 (dk_at dksX7_comesTo_9 11 rfl rfl)
theorem dX7_comesTo_225 : decode cX7_comesTo 225 = .ok (.iaload, 1) := dk_46 (dk_at dksX7_comesTo_9 12 rfl rfl)
theorem dX7_comesTo_226 : decode cX7_comesTo 226 = .ok (.invokestatic 228, 3) := dk_184 0 228 (dk_at dksX7_comesTo_9 13 rfl rfl)
theorem dX7_comesTo_229 : decode cX7_comesTo 229 = .ok (.iastore, 1) := dk_79 (dk_at dksX7_comesTo_9 16 rfl rfl)
theorem dX7_comesTo_230 : decode cX7_comesTo 230 = .ok (.goto (-214), 3) := dk_167 255 42 (dk_at dksX7_comesTo_9 17 rfl rfl)
theorem dX7_comesTo_233 : decode cX7_comesTo 233 = .ok (.aload_n 0, 1) := dk_42 (dk_at dksX7_comesTo_9 20 rfl rfl)
theorem dX7_comesTo_234 : decode cX7_comesTo 234 = .ok (.getfield 56, 3) := dk_180 0 56 (dk_at dksX7_comesTo_9 21 rfl rfl)
theorem dX7_comesTo_237 : decode cX7_comesTo 237 = .ok (.iconst 0, 1) := dk_3 (dk_at dksX7_comesTo_10 0 rfl rfl)
theorem dX7_comesTo_238 : decode cX7_comesTo 238 = .ok (.iaload, 1) := dk_46 (dk_at dksX7_comesTo_10 1 rfl rfl)
theorem dX7_comesTo_239 : decode cX7_comesTo 239 = .ok (.ireturn, 1) := dk_172 (dk_at dksX7_comesTo_10 2 rfl rfl)
abbrev cX7_reckon : ByteArray := prog_21_method_43_code
def yX7_reckon : MethodName := ⟨RX7, "reckon", "(III)I"⟩
def dkwX7_reckon_4 : List UInt8 := [160, 0, 7, 4, 167, 0, 4, 3, 172]
abbrev dktX7_reckon_4 : List UInt8 := dkwX7_reckon_4 ++ []
def dkwX7_reckon_3 : List UInt8 := [162, 0, 7, 4, 167, 0, 4, 3, 172, 27, 28, 164, 0, 7, 4, 167, 0, 4, 3, 172, 27, 28]
abbrev dktX7_reckon_3 : List UInt8 := dkwX7_reckon_3 ++ dktX7_reckon_4
def dkwX7_reckon_2 : List UInt8 := [27, 28, 96, 172, 27, 28, 100, 172, 27, 28, 104, 172, 27, 28, 108, 172, 27, 28, 112, 172, 27, 28]
abbrev dktX7_reckon_2 : List UInt8 := dkwX7_reckon_2 ++ dktX7_reckon_3
def dkwX7_reckon_1 : List UInt8 := [170, 0, 0, 0, 0, 0, 85, 0, 0, 0, 2, 0, 0, 0, 8, 0, 0, 0, 43, 0, 0, 0, 47, 0, 0, 0, 51, 0, 0, 0, 55, 0, 0, 0, 59, 0, 0, 0, 63, 0, 0, 0, 74]
abbrev dktX7_reckon_1 : List UInt8 := dkwX7_reckon_1 ++ dktX7_reckon_2
def dkwX7_reckon_0 : List UInt8 := [26]
abbrev dktX7_reckon_0 : List UInt8 := dkwX7_reckon_0 ++ dktX7_reckon_1
theorem dksX7_reckon_0 : cX7_reckon.data.toList.drop 0 = dktX7_reckon_0 := by decide +kernel
theorem dksX7_reckon_1 : cX7_reckon.data.toList.drop 1 = dktX7_reckon_1 := dk_seg dksX7_reckon_0 1 rfl rfl
theorem dksX7_reckon_2 : cX7_reckon.data.toList.drop 44 = dktX7_reckon_2 := dk_seg dksX7_reckon_1 43 rfl rfl
theorem dksX7_reckon_3 : cX7_reckon.data.toList.drop 66 = dktX7_reckon_3 := dk_seg dksX7_reckon_2 22 rfl rfl
theorem dksX7_reckon_4 : cX7_reckon.data.toList.drop 88 = dktX7_reckon_4 := dk_seg dksX7_reckon_3 22 rfl rfl
theorem dX7_reckon_0 : decode cX7_reckon 0 = .ok (.iload_n 0, 1) := dk_26 (dk_at dksX7_reckon_0 0 rfl rfl)
theorem dX7_reckon_1 : decode cX7_reckon 1 = .ok (.tableswitch 85 2 8 #[43, 47, 51, 55, 59, 63, 74], 43) := by decide +kernel
theorem dX7_reckon_44 : decode cX7_reckon 44 = .ok (.iload_n 1, 1) := dk_27 (dk_at dksX7_reckon_2 0 rfl rfl)
theorem dX7_reckon_45 : decode cX7_reckon 45 = .ok (.iload_n 2, 1) := dk_28 (dk_at dksX7_reckon_2 1 rfl rfl)
theorem dX7_reckon_46 : decode cX7_reckon 46 = .ok (.iadd, 1) := dk_96 (dk_at dksX7_reckon_2 2 rfl rfl)
theorem dX7_reckon_47 : decode cX7_reckon 47 = .ok (.ireturn, 1) := dk_172 (dk_at dksX7_reckon_2 3 rfl rfl)
theorem dX7_reckon_48 : decode cX7_reckon 48 = .ok (.iload_n 1, 1) := dk_27 (dk_at dksX7_reckon_2 4 rfl rfl)
theorem dX7_reckon_49 : decode cX7_reckon 49 = .ok (.iload_n 2, 1) := dk_28 (dk_at dksX7_reckon_2 5 rfl rfl)
theorem dX7_reckon_50 : decode cX7_reckon 50 = .ok (.isub, 1) := dk_100 (dk_at dksX7_reckon_2 6 rfl rfl)
theorem dX7_reckon_51 : decode cX7_reckon 51 = .ok (.ireturn, 1) := dk_172 (dk_at dksX7_reckon_2 7 rfl rfl)
theorem dX7_reckon_52 : decode cX7_reckon 52 = .ok (.iload_n 1, 1) := dk_27 (dk_at dksX7_reckon_2 8 rfl rfl)
theorem dX7_reckon_53 : decode cX7_reckon 53 = .ok (.iload_n 2, 1) := dk_28 (dk_at dksX7_reckon_2 9 rfl rfl)
theorem dX7_reckon_54 : decode cX7_reckon 54 = .ok (.imul, 1) := dk_104 (dk_at dksX7_reckon_2 10 rfl rfl)
theorem dX7_reckon_55 : decode cX7_reckon 55 = .ok (.ireturn, 1) := dk_172 (dk_at dksX7_reckon_2 11 rfl rfl)
theorem dX7_reckon_56 : decode cX7_reckon 56 = .ok (.iload_n 1, 1) := dk_27 (dk_at dksX7_reckon_2 12 rfl rfl)
theorem dX7_reckon_57 : decode cX7_reckon 57 = .ok (.iload_n 2, 1) := dk_28 (dk_at dksX7_reckon_2 13 rfl rfl)
theorem dX7_reckon_58 : decode cX7_reckon 58 = .ok (.idiv, 1) := dk_108 (dk_at dksX7_reckon_2 14 rfl rfl)
theorem dX7_reckon_59 : decode cX7_reckon 59 = .ok (.ireturn, 1) := dk_172 (dk_at dksX7_reckon_2 15 rfl rfl)
theorem dX7_reckon_60 : decode cX7_reckon 60 = .ok (.iload_n 1, 1) := dk_27 (dk_at dksX7_reckon_2 16 rfl rfl)
theorem dX7_reckon_61 : decode cX7_reckon 61 = .ok (.iload_n 2, 1) := dk_28 (dk_at dksX7_reckon_2 17 rfl rfl)
theorem dX7_reckon_62 : decode cX7_reckon 62 = .ok (.irem, 1) := dk_112 (dk_at dksX7_reckon_2 18 rfl rfl)
theorem dX7_reckon_63 : decode cX7_reckon 63 = .ok (.ireturn, 1) := dk_172 (dk_at dksX7_reckon_2 19 rfl rfl)
theorem dX7_reckon_64 : decode cX7_reckon 64 = .ok (.iload_n 1, 1) := dk_27 (dk_at dksX7_reckon_2 20 rfl rfl)
theorem dX7_reckon_65 : decode cX7_reckon 65 = .ok (.iload_n 2, 1) := dk_28 (dk_at dksX7_reckon_2 21 rfl rfl)
theorem dX7_reckon_66 : decode cX7_reckon 66 = .ok (.if_icmp .ge 7, 3) := dk_162 0 7 (dk_at dksX7_reckon_3 0 rfl rfl)
theorem dX7_reckon_69 : decode cX7_reckon 69 = .ok (.iconst 1, 1) := dk_4 (dk_at dksX7_reckon_3 3 rfl rfl)
theorem dX7_reckon_70 : decode cX7_reckon 70 = .ok (.goto 4, 3) := dk_167 0 4 (dk_at dksX7_reckon_3 4 rfl rfl)
theorem dX7_reckon_73 : decode cX7_reckon 73 = .ok (.iconst 0, 1) := dk_3 (dk_at dksX7_reckon_3 7 rfl rfl)
theorem dX7_reckon_74 : decode cX7_reckon 74 = .ok (.ireturn, 1) := dk_172 (dk_at dksX7_reckon_3 8 rfl rfl)
theorem dX7_reckon_75 : decode cX7_reckon 75 = .ok (.iload_n 1, 1) := dk_27 (dk_at dksX7_reckon_3 9 rfl rfl)
theorem dX7_reckon_76 : decode cX7_reckon 76 = .ok (.iload_n 2, 1) := dk_28 (dk_at dksX7_reckon_3 10 rfl rfl)
theorem dX7_reckon_77 : decode cX7_reckon 77 = .ok (.if_icmp .le 7, 3) := dk_164 0 7 (dk_at dksX7_reckon_3 11 rfl rfl)
theorem dX7_reckon_80 : decode cX7_reckon 80 = .ok (.iconst 1, 1) := dk_4 (dk_at dksX7_reckon_3 14 rfl rfl)
theorem dX7_reckon_81 : decode cX7_reckon 81 = .ok (.goto 4, 3) := dk_167 0 4 (dk_at dksX7_reckon_3 15 rfl rfl)
theorem dX7_reckon_84 : decode cX7_reckon 84 = .ok (.iconst 0, 1) := dk_3 (dk_at dksX7_reckon_3 18 rfl rfl)
theorem dX7_reckon_85 : decode cX7_reckon 85 = .ok (.ireturn, 1) := dk_172 (dk_at dksX7_reckon_3 19 rfl rfl)
theorem dX7_reckon_86 : decode cX7_reckon 86 = .ok (.iload_n 1, 1) := dk_27 (dk_at dksX7_reckon_3 20 rfl rfl)
theorem dX7_reckon_87 : decode cX7_reckon 87 = .ok (.iload_n 2, 1) := dk_28 (dk_at dksX7_reckon_3 21 rfl rfl)
theorem dX7_reckon_88 : decode cX7_reckon 88 = .ok (.if_icmp .ne 7, 3) := dk_160 0 7 (dk_at dksX7_reckon_4 0 rfl rfl)
theorem dX7_reckon_91 : decode cX7_reckon 91 = .ok (.iconst 1, 1) := dk_4 (dk_at dksX7_reckon_4 3 rfl rfl)
theorem dX7_reckon_92 : decode cX7_reckon 92 = .ok (.goto 4, 3) := dk_167 0 4 (dk_at dksX7_reckon_4 4 rfl rfl)
theorem dX7_reckon_95 : decode cX7_reckon 95 = .ok (.iconst 0, 1) := dk_3 (dk_at dksX7_reckon_4 7 rfl rfl)
theorem dX7_reckon_96 : decode cX7_reckon 96 = .ok (.ireturn, 1) := dk_172 (dk_at dksX7_reckon_4 8 rfl rfl)
abbrev cX7_wearsBy : ByteArray := prog_21_method_60_code
def yX7_wearsBy : MethodName := ⟨RX7, "wearsBy", "(II)I"⟩
def dkwX7_wearsBy_0 : List UInt8 := [42, 27, 28, 42, 27, 28, 182, 1, 6, 182, 0, 255, 42, 16, 119, 16, 9, 182, 1, 3, 172]
abbrev dktX7_wearsBy_0 : List UInt8 := dkwX7_wearsBy_0 ++ []
theorem dksX7_wearsBy_0 : cX7_wearsBy.data.toList.drop 0 = dktX7_wearsBy_0 := by decide +kernel
theorem dX7_wearsBy_0 : decode cX7_wearsBy 0 = .ok (.aload_n 0, 1) := dk_42 (dk_at dksX7_wearsBy_0 0 rfl rfl)
theorem dX7_wearsBy_1 : decode cX7_wearsBy 1 = .ok (.iload_n 1, 1) := dk_27 (dk_at dksX7_wearsBy_0 1 rfl rfl)
theorem dX7_wearsBy_2 : decode cX7_wearsBy 2 = .ok (.iload_n 2, 1) := dk_28 (dk_at dksX7_wearsBy_0 2 rfl rfl)
theorem dX7_wearsBy_3 : decode cX7_wearsBy 3 = .ok (.aload_n 0, 1) := dk_42 (dk_at dksX7_wearsBy_0 3 rfl rfl)
theorem dX7_wearsBy_4 : decode cX7_wearsBy 4 = .ok (.iload_n 1, 1) := dk_27 (dk_at dksX7_wearsBy_0 4 rfl rfl)
theorem dX7_wearsBy_5 : decode cX7_wearsBy 5 = .ok (.iload_n 2, 1) := dk_28 (dk_at dksX7_wearsBy_0 5 rfl rfl)
theorem dX7_wearsBy_6 : decode cX7_wearsBy 6 = .ok (.invokevirtual 262, 3) := dk_182 1 6 (dk_at dksX7_wearsBy_0 6 rfl rfl)
theorem dX7_wearsBy_9 : decode cX7_wearsBy 9 = .ok (.invokevirtual 255, 3) := dk_182 0 255 (dk_at dksX7_wearsBy_0 9 rfl rfl)
theorem dX7_wearsBy_12 : decode cX7_wearsBy 12 = .ok (.aload_n 0, 1) := dk_42 (dk_at dksX7_wearsBy_0 12 rfl rfl)
theorem dX7_wearsBy_13 : decode cX7_wearsBy 13 = .ok (.bipush 119, 2) := dk_16 119 (dk_at dksX7_wearsBy_0 13 rfl rfl)
theorem dX7_wearsBy_15 : decode cX7_wearsBy 15 = .ok (.bipush 9, 2) := dk_16 9 (dk_at dksX7_wearsBy_0 15 rfl rfl)
theorem dX7_wearsBy_17 : decode cX7_wearsBy 17 = .ok (.invokevirtual 259, 3) := dk_182 1 3 (dk_at dksX7_wearsBy_0 17 rfl rfl)
theorem dX7_wearsBy_20 : decode cX7_wearsBy 20 = .ok (.ireturn, 1) := dk_172 (dk_at dksX7_wearsBy_0 20 rfl rfl)
abbrev cX7_wearsAll : ByteArray := prog_21_method_58_code
def yX7_wearsAll : MethodName := ⟨RX7, "wearsAll", "(II)V"⟩
def dkwX7_wearsAll_2 : List UInt8 := [79, 132, 3, 1, 167, 255, 206, 177]
abbrev dktX7_wearsAll_2 : List UInt8 := dkwX7_wearsAll_2 ++ []
def dkwX7_wearsAll_1 : List UInt8 := [42, 180, 0, 7, 16, 72, 29, 96, 16, 99, 42, 180, 0, 7, 16, 72, 29, 96, 46, 28, 96, 184, 0, 249]
abbrev dktX7_wearsAll_1 : List UInt8 := dkwX7_wearsAll_1 ++ dktX7_wearsAll_2
def dkwX7_wearsAll_0 : List UInt8 := [3, 62, 29, 16, 12, 162, 0, 50, 42, 180, 0, 7, 16, 48, 27, 96, 46, 29, 184, 0, 101, 153, 0, 28]
abbrev dktX7_wearsAll_0 : List UInt8 := dkwX7_wearsAll_0 ++ dktX7_wearsAll_1
theorem dksX7_wearsAll_0 : cX7_wearsAll.data.toList.drop 0 = dktX7_wearsAll_0 := by decide +kernel
theorem dksX7_wearsAll_1 : cX7_wearsAll.data.toList.drop 24 = dktX7_wearsAll_1 := dk_seg dksX7_wearsAll_0 24 rfl rfl
theorem dksX7_wearsAll_2 : cX7_wearsAll.data.toList.drop 48 = dktX7_wearsAll_2 := dk_seg dksX7_wearsAll_1 24 rfl rfl
theorem dX7_wearsAll_0 : decode cX7_wearsAll 0 = .ok (.iconst 0, 1) := dk_3 (dk_at dksX7_wearsAll_0 0 rfl rfl)
theorem dX7_wearsAll_1 : decode cX7_wearsAll 1 = .ok (.istore_n 3, 1) := dk_62 (dk_at dksX7_wearsAll_0 1 rfl rfl)
theorem dX7_wearsAll_2 : decode cX7_wearsAll 2 = .ok (.iload_n 3, 1) := dk_29 (dk_at dksX7_wearsAll_0 2 rfl rfl)
theorem dX7_wearsAll_3 : decode cX7_wearsAll 3 = .ok (.bipush 12, 2) := dk_16 12 (dk_at dksX7_wearsAll_0 3 rfl rfl)
theorem dX7_wearsAll_5 : decode cX7_wearsAll 5 = .ok (.if_icmp .ge 50, 3) := dk_162 0 50 (dk_at dksX7_wearsAll_0 5 rfl rfl)
theorem dX7_wearsAll_8 : decode cX7_wearsAll 8 = .ok (.aload_n 0, 1) := dk_42 (dk_at dksX7_wearsAll_0 8 rfl rfl)
theorem dX7_wearsAll_9 : decode cX7_wearsAll 9 = .ok (.getfield 7, 3) := dk_180 0 7 (dk_at dksX7_wearsAll_0 9 rfl rfl)
theorem dX7_wearsAll_12 : decode cX7_wearsAll 12 = .ok (.bipush 48, 2) := dk_16 48 (dk_at dksX7_wearsAll_0 12 rfl rfl)
theorem dX7_wearsAll_14 : decode cX7_wearsAll 14 = .ok (.iload_n 1, 1) := dk_27 (dk_at dksX7_wearsAll_0 14 rfl rfl)
theorem dX7_wearsAll_15 : decode cX7_wearsAll 15 = .ok (.iadd, 1) := dk_96 (dk_at dksX7_wearsAll_0 15 rfl rfl)
theorem dX7_wearsAll_16 : decode cX7_wearsAll 16 = .ok (.iaload, 1) := dk_46 (dk_at dksX7_wearsAll_0 16 rfl rfl)
theorem dX7_wearsAll_17 : decode cX7_wearsAll 17 = .ok (.iload_n 3, 1) := dk_29 (dk_at dksX7_wearsAll_0 17 rfl rfl)
theorem dX7_wearsAll_18 : decode cX7_wearsAll 18 = .ok (.invokestatic 101, 3) := dk_184 0 101 (dk_at dksX7_wearsAll_0 18 rfl rfl)
theorem dX7_wearsAll_21 : decode cX7_wearsAll 21 = .ok (.ifCond .eq 28, 3) := dk_153 0 28 (dk_at dksX7_wearsAll_0 21 rfl rfl)
theorem dX7_wearsAll_24 : decode cX7_wearsAll 24 = .ok (.aload_n 0, 1) := dk_42 (dk_at dksX7_wearsAll_1 0 rfl rfl)
theorem dX7_wearsAll_25 : decode cX7_wearsAll 25 = .ok (.getfield 7, 3) := dk_180 0 7 (dk_at dksX7_wearsAll_1 1 rfl rfl)
theorem dX7_wearsAll_28 : decode cX7_wearsAll 28 = .ok (.bipush 72, 2) := dk_16 72 (dk_at dksX7_wearsAll_1 4 rfl rfl)
theorem dX7_wearsAll_30 : decode cX7_wearsAll 30 = .ok (.iload_n 3, 1) := dk_29 (dk_at dksX7_wearsAll_1 6 rfl rfl)
theorem dX7_wearsAll_31 : decode cX7_wearsAll 31 = .ok (.iadd, 1) := dk_96 (dk_at dksX7_wearsAll_1 7 rfl rfl)
theorem dX7_wearsAll_32 : decode cX7_wearsAll 32 = .ok (.bipush 99, 2) := dk_16 99 (dk_at dksX7_wearsAll_1 8 rfl rfl)
theorem dX7_wearsAll_34 : decode cX7_wearsAll 34 = .ok (.aload_n 0, 1) := dk_42 (dk_at dksX7_wearsAll_1 10 rfl rfl)
theorem dX7_wearsAll_35 : decode cX7_wearsAll 35 = .ok (.getfield 7, 3) := dk_180 0 7 (dk_at dksX7_wearsAll_1 11 rfl rfl)
theorem dX7_wearsAll_38 : decode cX7_wearsAll 38 = .ok (.bipush 72, 2) := dk_16 72 (dk_at dksX7_wearsAll_1 14 rfl rfl)
theorem dX7_wearsAll_40 : decode cX7_wearsAll 40 = .ok (.iload_n 3, 1) := dk_29 (dk_at dksX7_wearsAll_1 16 rfl rfl)
theorem dX7_wearsAll_41 : decode cX7_wearsAll 41 = .ok (.iadd, 1) := dk_96 (dk_at dksX7_wearsAll_1 17 rfl rfl)
theorem dX7_wearsAll_42 : decode cX7_wearsAll 42 = .ok (.iaload, 1) := dk_46 (dk_at dksX7_wearsAll_1 18 rfl rfl)
theorem dX7_wearsAll_43 : decode cX7_wearsAll 43 = .ok (.iload_n 2, 1) := dk_28 (dk_at dksX7_wearsAll_1 19 rfl rfl)
theorem dX7_wearsAll_44 : decode cX7_wearsAll 44 = .ok (.iadd, 1) := dk_96 (dk_at dksX7_wearsAll_1 20 rfl rfl)
theorem dX7_wearsAll_45 : decode cX7_wearsAll 45 = .ok (.invokestatic 249, 3) := dk_184 0 249 (dk_at dksX7_wearsAll_1 21 rfl rfl)
theorem dX7_wearsAll_48 : decode cX7_wearsAll 48 = .ok (.iastore, 1) := dk_79 (dk_at dksX7_wearsAll_2 0 rfl rfl)
theorem dX7_wearsAll_49 : decode cX7_wearsAll 49 = .ok (.iinc 3 1, 3) := dk_132 3 1 (dk_at dksX7_wearsAll_2 1 rfl rfl)
theorem dX7_wearsAll_52 : decode cX7_wearsAll 52 = .ok (.goto (-50), 3) := dk_167 255 206 (dk_at dksX7_wearsAll_2 4 rfl rfl)
theorem dX7_wearsAll_55 : decode cX7_wearsAll 55 = .ok (.return_, 1) := dk_177 (dk_at dksX7_wearsAll_2 7 rfl rfl)
abbrev cX7_creak : ByteArray := prog_21_method_63_code
def yX7_creak : MethodName := ⟨RX7, "creak", "(I)V"⟩
def dkwX7_creak_6 : List UInt8 := [180, 1, 46, 4, 96, 181, 1, 46, 177]
abbrev dktX7_creak_6 : List UInt8 := dkwX7_creak_6 ++ []
def dkwX7_creak_5 : List UInt8 := [16, 98, 16, 99, 182, 1, 3, 163, 0, 4, 177, 42, 27, 182, 0, 115, 42, 27, 28, 182, 1, 27, 42, 42]
abbrev dktX7_creak_5 : List UInt8 := dkwX7_creak_5 ++ dktX7_creak_6
def dkwX7_creak_4 : List UInt8 := [79, 42, 27, 28, 42, 27, 28, 182, 1, 6, 182, 0, 255, 42, 180, 0, 7, 16, 36, 27, 96, 46, 42]
abbrev dktX7_creak_4 : List UInt8 := dkwX7_creak_4 ++ dktX7_creak_5
def dkwX7_creak_3 : List UInt8 := [42, 180, 0, 7, 16, 36, 28, 96, 16, 99, 42, 180, 0, 7, 16, 36, 28, 96, 46, 4, 96, 184, 0, 249]
abbrev dktX7_creak_3 : List UInt8 := dkwX7_creak_3 ++ dktX7_creak_4
def dkwX7_creak_2 : List UInt8 := [180, 0, 7, 16, 36, 27, 96, 16, 99, 42, 180, 0, 7, 16, 36, 27, 96, 46, 4, 96, 184, 0, 249, 79]
abbrev dktX7_creak_2 : List UInt8 := dkwX7_creak_2 ++ dktX7_creak_3
def dkwX7_creak_1 : List UInt8 := [42, 27, 28, 182, 1, 6, 182, 0, 255, 29, 42, 16, 99, 16, 10, 182, 1, 3, 162, 0, 53, 42]
abbrev dktX7_creak_1 : List UInt8 := dkwX7_creak_1 ++ dktX7_creak_2
def dkwX7_creak_0 : List UInt8 := [42, 180, 0, 7, 16, 24, 27, 96, 46, 61, 28, 27, 162, 0, 4, 177, 42, 182, 1, 43, 62, 42, 27, 28]
abbrev dktX7_creak_0 : List UInt8 := dkwX7_creak_0 ++ dktX7_creak_1
theorem dksX7_creak_0 : cX7_creak.data.toList.drop 0 = dktX7_creak_0 := by decide +kernel
theorem dksX7_creak_1 : cX7_creak.data.toList.drop 24 = dktX7_creak_1 := dk_seg dksX7_creak_0 24 rfl rfl
theorem dksX7_creak_2 : cX7_creak.data.toList.drop 46 = dktX7_creak_2 := dk_seg dksX7_creak_1 22 rfl rfl
theorem dksX7_creak_3 : cX7_creak.data.toList.drop 70 = dktX7_creak_3 := dk_seg dksX7_creak_2 24 rfl rfl
theorem dksX7_creak_4 : cX7_creak.data.toList.drop 94 = dktX7_creak_4 := dk_seg dksX7_creak_3 24 rfl rfl
theorem dksX7_creak_5 : cX7_creak.data.toList.drop 117 = dktX7_creak_5 := dk_seg dksX7_creak_4 23 rfl rfl
theorem dksX7_creak_6 : cX7_creak.data.toList.drop 141 = dktX7_creak_6 := dk_seg dksX7_creak_5 24 rfl rfl
theorem dX7_creak_0 : decode cX7_creak 0 = .ok (.aload_n 0, 1) := dk_42 (dk_at dksX7_creak_0 0 rfl rfl)
theorem dX7_creak_1 : decode cX7_creak 1 = .ok (.getfield 7, 3) := dk_180 0 7 (dk_at dksX7_creak_0 1 rfl rfl)
theorem dX7_creak_4 : decode cX7_creak 4 = .ok (.bipush 24, 2) := dk_16 24 (dk_at dksX7_creak_0 4 rfl rfl)
theorem dX7_creak_6 : decode cX7_creak 6 = .ok (.iload_n 1, 1) := dk_27 (dk_at dksX7_creak_0 6 rfl rfl)
theorem dX7_creak_7 : decode cX7_creak 7 = .ok (.iadd, 1) := dk_96 (dk_at dksX7_creak_0 7 rfl rfl)
theorem dX7_creak_8 : decode cX7_creak 8 = .ok (.iaload, 1) := dk_46 (dk_at dksX7_creak_0 8 rfl rfl)
theorem dX7_creak_9 : decode cX7_creak 9 = .ok (.istore_n 2, 1) := dk_61 (dk_at dksX7_creak_0 9 rfl rfl)
theorem dX7_creak_10 : decode cX7_creak 10 = .ok (.iload_n 2, 1) := dk_28 (dk_at dksX7_creak_0 10 rfl rfl)
theorem dX7_creak_11 : decode cX7_creak 11 = .ok (.iload_n 1, 1) := dk_27 (dk_at dksX7_creak_0 11 rfl rfl)
theorem dX7_creak_12 : decode cX7_creak 12 = .ok (.if_icmp .ge 4, 3) := dk_162 0 4 (dk_at dksX7_creak_0 12 rfl rfl)
theorem dX7_creak_15 : decode cX7_creak 15 = .ok (.return_, 1) := dk_177 (dk_at dksX7_creak_0 15 rfl rfl)
theorem dX7_creak_16 : decode cX7_creak 16 = .ok (.aload_n 0, 1) := dk_42 (dk_at dksX7_creak_0 16 rfl rfl)
theorem dX7_creak_17 : decode cX7_creak 17 = .ok (.invokevirtual 299, 3) := dk_182 1 43 (dk_at dksX7_creak_0 17 rfl rfl)
theorem dX7_creak_20 : decode cX7_creak 20 = .ok (.istore_n 3, 1) := dk_62 (dk_at dksX7_creak_0 20 rfl rfl)
theorem dX7_creak_21 : decode cX7_creak 21 = .ok (.aload_n 0, 1) := dk_42 (dk_at dksX7_creak_0 21 rfl rfl)
theorem dX7_creak_22 : decode cX7_creak 22 = .ok (.iload_n 1, 1) := dk_27 (dk_at dksX7_creak_0 22 rfl rfl)
theorem dX7_creak_23 : decode cX7_creak 23 = .ok (.iload_n 2, 1) := dk_28 (dk_at dksX7_creak_0 23 rfl rfl)
theorem dX7_creak_24 : decode cX7_creak 24 = .ok (.aload_n 0, 1) := dk_42 (dk_at dksX7_creak_1 0 rfl rfl)
theorem dX7_creak_25 : decode cX7_creak 25 = .ok (.iload_n 1, 1) := dk_27 (dk_at dksX7_creak_1 1 rfl rfl)
theorem dX7_creak_26 : decode cX7_creak 26 = .ok (.iload_n 2, 1) := dk_28 (dk_at dksX7_creak_1 2 rfl rfl)
theorem dX7_creak_27 : decode cX7_creak 27 = .ok (.invokevirtual 262, 3) := dk_182 1 6 (dk_at dksX7_creak_1 3 rfl rfl)
theorem dX7_creak_30 : decode cX7_creak 30 = .ok (.invokevirtual 255, 3) := dk_182 0 255 (dk_at dksX7_creak_1 6 rfl rfl)
theorem dX7_creak_33 : decode cX7_creak 33 = .ok (.iload_n 3, 1) := dk_29 (dk_at dksX7_creak_1 9 rfl rfl)
theorem dX7_creak_34 : decode cX7_creak 34 = .ok (.aload_n 0, 1) := dk_42 (dk_at dksX7_creak_1 10 rfl rfl)
theorem dX7_creak_35 : decode cX7_creak 35 = .ok (.bipush 99, 2) := dk_16 99 (dk_at dksX7_creak_1 11 rfl rfl)
theorem dX7_creak_37 : decode cX7_creak 37 = .ok (.bipush 10, 2) := dk_16 10 (dk_at dksX7_creak_1 13 rfl rfl)
theorem dX7_creak_39 : decode cX7_creak 39 = .ok (.invokevirtual 259, 3) := dk_182 1 3 (dk_at dksX7_creak_1 15 rfl rfl)
theorem dX7_creak_42 : decode cX7_creak 42 = .ok (.if_icmp .ge 53, 3) := dk_162 0 53 (dk_at dksX7_creak_1 18 rfl rfl)
theorem dX7_creak_45 : decode cX7_creak 45 = .ok (.aload_n 0, 1) := dk_42 (dk_at dksX7_creak_1 21 rfl rfl)
theorem dX7_creak_46 : decode cX7_creak 46 = .ok (.getfield 7, 3) := dk_180 0 7 (dk_at dksX7_creak_2 0 rfl rfl)
theorem dX7_creak_49 : decode cX7_creak 49 = .ok (.bipush 36, 2) := dk_16 36 (dk_at dksX7_creak_2 3 rfl rfl)
theorem dX7_creak_51 : decode cX7_creak 51 = .ok (.iload_n 1, 1) := dk_27 (dk_at dksX7_creak_2 5 rfl rfl)
theorem dX7_creak_52 : decode cX7_creak 52 = .ok (.iadd, 1) := dk_96 (dk_at dksX7_creak_2 6 rfl rfl)
theorem dX7_creak_53 : decode cX7_creak 53 = .ok (.bipush 99, 2) := dk_16 99 (dk_at dksX7_creak_2 7 rfl rfl)
theorem dX7_creak_55 : decode cX7_creak 55 = .ok (.aload_n 0, 1) := dk_42 (dk_at dksX7_creak_2 9 rfl rfl)
theorem dX7_creak_56 : decode cX7_creak 56 = .ok (.getfield 7, 3) := dk_180 0 7 (dk_at dksX7_creak_2 10 rfl rfl)
theorem dX7_creak_59 : decode cX7_creak 59 = .ok (.bipush 36, 2) := dk_16 36 (dk_at dksX7_creak_2 13 rfl rfl)
theorem dX7_creak_61 : decode cX7_creak 61 = .ok (.iload_n 1, 1) := dk_27 (dk_at dksX7_creak_2 15 rfl rfl)
theorem dX7_creak_62 : decode cX7_creak 62 = .ok (.iadd, 1) := dk_96 (dk_at dksX7_creak_2 16 rfl rfl)
theorem dX7_creak_63 : decode cX7_creak 63 = .ok (.iaload, 1) := dk_46 (dk_at dksX7_creak_2 17 rfl rfl)
theorem dX7_creak_64 : decode cX7_creak 64 = .ok (.iconst 1, 1) := dk_4 (dk_at dksX7_creak_2 18 rfl rfl)
theorem dX7_creak_65 : decode cX7_creak 65 = .ok (.iadd, 1) := dk_96 (dk_at dksX7_creak_2 19 rfl rfl)
theorem dX7_creak_66 : decode cX7_creak 66 = .ok (.invokestatic 249, 3) := dk_184 0 249 (dk_at dksX7_creak_2 20 rfl rfl)
theorem dX7_creak_69 : decode cX7_creak 69 = .ok (.iastore, 1) := dk_79 (dk_at dksX7_creak_2 23 rfl rfl)
theorem dX7_creak_70 : decode cX7_creak 70 = .ok (.aload_n 0, 1) := dk_42 (dk_at dksX7_creak_3 0 rfl rfl)
theorem dX7_creak_71 : decode cX7_creak 71 = .ok (.getfield 7, 3) := dk_180 0 7 (dk_at dksX7_creak_3 1 rfl rfl)
theorem dX7_creak_74 : decode cX7_creak 74 = .ok (.bipush 36, 2) := dk_16 36 (dk_at dksX7_creak_3 4 rfl rfl)
theorem dX7_creak_76 : decode cX7_creak 76 = .ok (.iload_n 2, 1) := dk_28 (dk_at dksX7_creak_3 6 rfl rfl)
theorem dX7_creak_77 : decode cX7_creak 77 = .ok (.iadd, 1) := dk_96 (dk_at dksX7_creak_3 7 rfl rfl)
theorem dX7_creak_78 : decode cX7_creak 78 = .ok (.bipush 99, 2) := dk_16 99 (dk_at dksX7_creak_3 8 rfl rfl)
theorem dX7_creak_80 : decode cX7_creak 80 = .ok (.aload_n 0, 1) := dk_42 (dk_at dksX7_creak_3 10 rfl rfl)
theorem dX7_creak_81 : decode cX7_creak 81 = .ok (.getfield 7, 3) := dk_180 0 7 (dk_at dksX7_creak_3 11 rfl rfl)
theorem dX7_creak_84 : decode cX7_creak 84 = .ok (.bipush 36, 2) := dk_16 36 (dk_at dksX7_creak_3 14 rfl rfl)
theorem dX7_creak_86 : decode cX7_creak 86 = .ok (.iload_n 2, 1) := dk_28 (dk_at dksX7_creak_3 16 rfl rfl)
theorem dX7_creak_87 : decode cX7_creak 87 = .ok (.iadd, 1) := dk_96 (dk_at dksX7_creak_3 17 rfl rfl)
theorem dX7_creak_88 : decode cX7_creak 88 = .ok (.iaload, 1) := dk_46 (dk_at dksX7_creak_3 18 rfl rfl)
theorem dX7_creak_89 : decode cX7_creak 89 = .ok (.iconst 1, 1) := dk_4 (dk_at dksX7_creak_3 19 rfl rfl)
theorem dX7_creak_90 : decode cX7_creak 90 = .ok (.iadd, 1) := dk_96 (dk_at dksX7_creak_3 20 rfl rfl)
theorem dX7_creak_91 : decode cX7_creak 91 = .ok (.invokestatic 249, 3) := dk_184 0 249 (dk_at dksX7_creak_3 21 rfl rfl)
theorem dX7_creak_94 : decode cX7_creak 94 = .ok (.iastore, 1) := dk_79 (dk_at dksX7_creak_4 0 rfl rfl)
theorem dX7_creak_95 : decode cX7_creak 95 = .ok (.aload_n 0, 1) := dk_42 (dk_at dksX7_creak_4 1 rfl rfl)
theorem dX7_creak_96 : decode cX7_creak 96 = .ok (.iload_n 1, 1) := dk_27 (dk_at dksX7_creak_4 2 rfl rfl)
theorem dX7_creak_97 : decode cX7_creak 97 = .ok (.iload_n 2, 1) := dk_28 (dk_at dksX7_creak_4 3 rfl rfl)
theorem dX7_creak_98 : decode cX7_creak 98 = .ok (.aload_n 0, 1) := dk_42 (dk_at dksX7_creak_4 4 rfl rfl)
theorem dX7_creak_99 : decode cX7_creak 99 = .ok (.iload_n 1, 1) := dk_27 (dk_at dksX7_creak_4 5 rfl rfl)
theorem dX7_creak_100 : decode cX7_creak 100 = .ok (.iload_n 2, 1) := dk_28 (dk_at dksX7_creak_4 6 rfl rfl)
theorem dX7_creak_101 : decode cX7_creak 101 = .ok (.invokevirtual 262, 3) := dk_182 1 6 (dk_at dksX7_creak_4 7 rfl rfl)
theorem dX7_creak_104 : decode cX7_creak 104 = .ok (.invokevirtual 255, 3) := dk_182 0 255 (dk_at dksX7_creak_4 10 rfl rfl)
theorem dX7_creak_107 : decode cX7_creak 107 = .ok (.aload_n 0, 1) := dk_42 (dk_at dksX7_creak_4 13 rfl rfl)
theorem dX7_creak_108 : decode cX7_creak 108 = .ok (.getfield 7, 3) := dk_180 0 7 (dk_at dksX7_creak_4 14 rfl rfl)
theorem dX7_creak_111 : decode cX7_creak 111 = .ok (.bipush 36, 2) := dk_16 36 (dk_at dksX7_creak_4 17 rfl rfl)
theorem dX7_creak_113 : decode cX7_creak 113 = .ok (.iload_n 1, 1) := dk_27 (dk_at dksX7_creak_4 19 rfl rfl)
theorem dX7_creak_114 : decode cX7_creak 114 = .ok (.iadd, 1) := dk_96 (dk_at dksX7_creak_4 20 rfl rfl)
theorem dX7_creak_115 : decode cX7_creak 115 = .ok (.iaload, 1) := dk_46 (dk_at dksX7_creak_4 21 rfl rfl)
theorem dX7_creak_116 : decode cX7_creak 116 = .ok (.aload_n 0, 1) := dk_42 (dk_at dksX7_creak_4 22 rfl rfl)
theorem dX7_creak_117 : decode cX7_creak 117 = .ok (.bipush 98, 2) := dk_16 98 (dk_at dksX7_creak_5 0 rfl rfl)
theorem dX7_creak_119 : decode cX7_creak 119 = .ok (.bipush 99, 2) := dk_16 99 (dk_at dksX7_creak_5 2 rfl rfl)
theorem dX7_creak_121 : decode cX7_creak 121 = .ok (.invokevirtual 259, 3) := dk_182 1 3 (dk_at dksX7_creak_5 4 rfl rfl)
theorem dX7_creak_124 : decode cX7_creak 124 = .ok (.if_icmp .gt 4, 3) := dk_163 0 4 (dk_at dksX7_creak_5 7 rfl rfl)
theorem dX7_creak_127 : decode cX7_creak 127 = .ok (.return_, 1) := dk_177 (dk_at dksX7_creak_5 10 rfl rfl)
theorem dX7_creak_128 : decode cX7_creak 128 = .ok (.aload_n 0, 1) := dk_42 (dk_at dksX7_creak_5 11 rfl rfl)
theorem dX7_creak_129 : decode cX7_creak 129 = .ok (.iload_n 1, 1) := dk_27 (dk_at dksX7_creak_5 12 rfl rfl)
theorem dX7_creak_130 : decode cX7_creak 130 = .ok (.invokevirtual 115, 3) := dk_182 0 115 (dk_at dksX7_creak_5 13 rfl rfl)
theorem dX7_creak_133 : decode cX7_creak 133 = .ok (.aload_n 0, 1) := dk_42 (dk_at dksX7_creak_5 16 rfl rfl)
theorem dX7_creak_134 : decode cX7_creak 134 = .ok (.iload_n 1, 1) := dk_27 (dk_at dksX7_creak_5 17 rfl rfl)
theorem dX7_creak_135 : decode cX7_creak 135 = .ok (.iload_n 2, 1) := dk_28 (dk_at dksX7_creak_5 18 rfl rfl)
theorem dX7_creak_136 : decode cX7_creak 136 = .ok (.invokevirtual 283, 3) := dk_182 1 27 (dk_at dksX7_creak_5 19 rfl rfl)
theorem dX7_creak_139 : decode cX7_creak 139 = .ok (.aload_n 0, 1) := dk_42 (dk_at dksX7_creak_5 22 rfl rfl)
theorem dX7_creak_140 : decode cX7_creak 140 = .ok (.aload_n 0, 1) := dk_42 (dk_at dksX7_creak_5 23 rfl rfl)
theorem dX7_creak_141 : decode cX7_creak 141 = .ok (.getfield 302, 3) := dk_180 1 46 (dk_at dksX7_creak_6 0 rfl rfl)
theorem dX7_creak_144 : decode cX7_creak 144 = .ok (.iconst 1, 1) := dk_4 (dk_at dksX7_creak_6 3 rfl rfl)
theorem dX7_creak_145 : decode cX7_creak 145 = .ok (.iadd, 1) := dk_96 (dk_at dksX7_creak_6 4 rfl rfl)
theorem dX7_creak_146 : decode cX7_creak 146 = .ok (.putfield 302, 3) := dk_181 1 46 (dk_at dksX7_creak_6 5 rfl rfl)
theorem dX7_creak_149 : decode cX7_creak 149 = .ok (.return_, 1) := dk_177 (dk_at dksX7_creak_6 8 rfl rfl)
abbrev cX7_draws : ByteArray := prog_21_method_62_code
def yX7_draws : MethodName := ⟨RX7, "draws", "()I"⟩
def dkwX7_draws_1 : List UInt8 := [112, 79, 42, 180, 0, 7, 16, 111, 46, 16, 10, 112, 172]
abbrev dktX7_draws_1 : List UInt8 := dkwX7_draws_1 ++ []
def dkwX7_draws_0 : List UInt8 := [42, 180, 0, 7, 16, 111, 17, 98, 85, 42, 180, 0, 7, 16, 111, 46, 104, 17, 54, 25, 96, 19, 1, 42]
abbrev dktX7_draws_0 : List UInt8 := dkwX7_draws_0 ++ dktX7_draws_1
theorem dksX7_draws_0 : cX7_draws.data.toList.drop 0 = dktX7_draws_0 := by decide +kernel
theorem dksX7_draws_1 : cX7_draws.data.toList.drop 24 = dktX7_draws_1 := dk_seg dksX7_draws_0 24 rfl rfl
theorem dX7_draws_0 : decode cX7_draws 0 = .ok (.aload_n 0, 1) := dk_42 (dk_at dksX7_draws_0 0 rfl rfl)
theorem dX7_draws_1 : decode cX7_draws 1 = .ok (.getfield 7, 3) := dk_180 0 7 (dk_at dksX7_draws_0 1 rfl rfl)
theorem dX7_draws_4 : decode cX7_draws 4 = .ok (.bipush 111, 2) := dk_16 111 (dk_at dksX7_draws_0 4 rfl rfl)
theorem dX7_draws_6 : decode cX7_draws 6 = .ok (.sipush 25173, 3) := dk_17 98 85 (dk_at dksX7_draws_0 6 rfl rfl)
theorem dX7_draws_9 : decode cX7_draws 9 = .ok (.aload_n 0, 1) := dk_42 (dk_at dksX7_draws_0 9 rfl rfl)
theorem dX7_draws_10 : decode cX7_draws 10 = .ok (.getfield 7, 3) := dk_180 0 7 (dk_at dksX7_draws_0 10 rfl rfl)
theorem dX7_draws_13 : decode cX7_draws 13 = .ok (.bipush 111, 2) := dk_16 111 (dk_at dksX7_draws_0 13 rfl rfl)
theorem dX7_draws_15 : decode cX7_draws 15 = .ok (.iaload, 1) := dk_46 (dk_at dksX7_draws_0 15 rfl rfl)
theorem dX7_draws_16 : decode cX7_draws 16 = .ok (.imul, 1) := dk_104 (dk_at dksX7_draws_0 16 rfl rfl)
theorem dX7_draws_17 : decode cX7_draws 17 = .ok (.sipush 13849, 3) := dk_17 54 25 (dk_at dksX7_draws_0 17 rfl rfl)
theorem dX7_draws_20 : decode cX7_draws 20 = .ok (.iadd, 1) := dk_96 (dk_at dksX7_draws_0 20 rfl rfl)
theorem dX7_draws_21 : decode cX7_draws 21 = .ok (.ldc_w 298, 3) := dk_19 1 42 (dk_at dksX7_draws_0 21 rfl rfl)
theorem dX7_draws_24 : decode cX7_draws 24 = .ok (.irem, 1) := dk_112 (dk_at dksX7_draws_1 0 rfl rfl)
theorem dX7_draws_25 : decode cX7_draws 25 = .ok (.iastore, 1) := dk_79 (dk_at dksX7_draws_1 1 rfl rfl)
theorem dX7_draws_26 : decode cX7_draws 26 = .ok (.aload_n 0, 1) := dk_42 (dk_at dksX7_draws_1 2 rfl rfl)
theorem dX7_draws_27 : decode cX7_draws 27 = .ok (.getfield 7, 3) := dk_180 0 7 (dk_at dksX7_draws_1 3 rfl rfl)
theorem dX7_draws_30 : decode cX7_draws 30 = .ok (.bipush 111, 2) := dk_16 111 (dk_at dksX7_draws_1 6 rfl rfl)
theorem dX7_draws_32 : decode cX7_draws 32 = .ok (.iaload, 1) := dk_46 (dk_at dksX7_draws_1 8 rfl rfl)
theorem dX7_draws_33 : decode cX7_draws 33 = .ok (.bipush 10, 2) := dk_16 10 (dk_at dksX7_draws_1 9 rfl rfl)
theorem dX7_draws_35 : decode cX7_draws 35 = .ok (.irem, 1) := dk_112 (dk_at dksX7_draws_1 11 rfl rfl)
theorem dX7_draws_36 : decode cX7_draws 36 = .ok (.ireturn, 1) := dk_172 (dk_at dksX7_draws_1 12 rfl rfl)
abbrev cX7_tried : ByteArray := prog_21_method_67_code
def yX7_tried : MethodName := ⟨RX7, "tried", "(II)I"⟩
def dkwX7_tried_7 : List UInt8 := [180, 0, 7, 184, 1, 61, 21, 4, 172]
abbrev dktX7_tried_7 : List UInt8 := dkwX7_tried_7 ++ []
def dkwX7_tried_6 : List UInt8 := [46, 167, 0, 15, 42, 180, 0, 7, 16, 72, 28, 96, 16, 30, 100, 46, 54, 4, 42, 180, 0, 13, 42]
abbrev dktX7_tried_6 : List UInt8 := dkwX7_tried_6 ++ dktX7_tried_7
def dkwX7_tried_5 : List UInt8 := [42, 182, 1, 65, 167, 0, 36, 28, 16, 30, 162, 0, 18, 42, 180, 0, 7, 16, 24, 28, 96, 16, 10, 100]
abbrev dktX7_tried_5 : List UInt8 := dkwX7_tried_5 ++ dktX7_tried_6
def dkwX7_tried_4 : List UInt8 := [42, 180, 1, 24, 167, 0, 60, 28, 5, 160, 0, 10, 42, 180, 1, 46, 167, 0, 48, 28, 6, 160, 0, 10]
abbrev dktX7_tried_4 : List UInt8 := dkwX7_tried_4 ++ dktX7_tried_5
def dkwX7_tried_3 : List UInt8 := [184, 1, 61, 42, 27, 182, 1, 58, 28, 154, 0, 10, 42, 180, 1, 33, 167, 0, 72, 28, 4, 160, 0, 10]
abbrev dktX7_tried_3 : List UInt8 := dkwX7_tried_3 ++ dktX7_tried_4
def dkwX7_tried_2 : List UInt8 := [27, 4, 16, 60, 184, 0, 111, 153, 0, 7, 29, 154, 0, 5, 2, 172, 42, 180, 0, 7, 42, 180, 0, 13]
abbrev dktX7_tried_2 : List UInt8 := dkwX7_tried_2 ++ dktX7_tried_3
def dkwX7_tried_1 : List UInt8 := [100, 182, 0, 105, 154, 0, 14, 28, 16, 30, 16, 41, 184, 0, 111, 153, 0, 7, 4, 167, 0, 4, 3, 62]
abbrev dktX7_tried_1 : List UInt8 := dkwX7_tried_1 ++ dktX7_tried_2
def dkwX7_tried_0 : List UInt8 := [28, 3, 6, 184, 0, 111, 154, 0, 36, 28, 16, 10, 16, 21, 184, 0, 111, 153, 0, 14, 42, 28, 16, 10]
abbrev dktX7_tried_0 : List UInt8 := dkwX7_tried_0 ++ dktX7_tried_1
theorem dksX7_tried_0 : cX7_tried.data.toList.drop 0 = dktX7_tried_0 := by decide +kernel
theorem dksX7_tried_1 : cX7_tried.data.toList.drop 24 = dktX7_tried_1 := dk_seg dksX7_tried_0 24 rfl rfl
theorem dksX7_tried_2 : cX7_tried.data.toList.drop 48 = dktX7_tried_2 := dk_seg dksX7_tried_1 24 rfl rfl
theorem dksX7_tried_3 : cX7_tried.data.toList.drop 72 = dktX7_tried_3 := dk_seg dksX7_tried_2 24 rfl rfl
theorem dksX7_tried_4 : cX7_tried.data.toList.drop 96 = dktX7_tried_4 := dk_seg dksX7_tried_3 24 rfl rfl
theorem dksX7_tried_5 : cX7_tried.data.toList.drop 120 = dktX7_tried_5 := dk_seg dksX7_tried_4 24 rfl rfl
theorem dksX7_tried_6 : cX7_tried.data.toList.drop 144 = dktX7_tried_6 := dk_seg dksX7_tried_5 24 rfl rfl
theorem dksX7_tried_7 : cX7_tried.data.toList.drop 167 = dktX7_tried_7 := dk_seg dksX7_tried_6 23 rfl rfl
theorem dX7_tried_0 : decode cX7_tried 0 = .ok (.iload_n 2, 1) := dk_28 (dk_at dksX7_tried_0 0 rfl rfl)
theorem dX7_tried_1 : decode cX7_tried 1 = .ok (.iconst 0, 1) := dk_3 (dk_at dksX7_tried_0 1 rfl rfl)
theorem dX7_tried_2 : decode cX7_tried 2 = .ok (.iconst 3, 1) := dk_6 (dk_at dksX7_tried_0 2 rfl rfl)
theorem dX7_tried_3 : decode cX7_tried 3 = .ok (.invokestatic 111, 3) := dk_184 0 111 (dk_at dksX7_tried_0 3 rfl rfl)
theorem dX7_tried_6 : decode cX7_tried 6 = .ok (.ifCond .ne 36, 3) := dk_154 0 36 (dk_at dksX7_tried_0 6 rfl rfl)
theorem dX7_tried_9 : decode cX7_tried 9 = .ok (.iload_n 2, 1) := dk_28 (dk_at dksX7_tried_0 9 rfl rfl)
theorem dX7_tried_10 : decode cX7_tried 10 = .ok (.bipush 10, 2) := dk_16 10 (dk_at dksX7_tried_0 10 rfl rfl)
theorem dX7_tried_12 : decode cX7_tried 12 = .ok (.bipush 21, 2) := dk_16 21 (dk_at dksX7_tried_0 12 rfl rfl)
theorem dX7_tried_14 : decode cX7_tried 14 = .ok (.invokestatic 111, 3) := dk_184 0 111 (dk_at dksX7_tried_0 14 rfl rfl)
theorem dX7_tried_17 : decode cX7_tried 17 = .ok (.ifCond .eq 14, 3) := dk_153 0 14 (dk_at dksX7_tried_0 17 rfl rfl)
theorem dX7_tried_20 : decode cX7_tried 20 = .ok (.aload_n 0, 1) := dk_42 (dk_at dksX7_tried_0 20 rfl rfl)
theorem dX7_tried_21 : decode cX7_tried 21 = .ok (.iload_n 2, 1) := dk_28 (dk_at dksX7_tried_0 21 rfl rfl)
theorem dX7_tried_22 : decode cX7_tried 22 = .ok (.bipush 10, 2) := dk_16 10 (dk_at dksX7_tried_0 22 rfl rfl)
theorem dX7_tried_24 : decode cX7_tried 24 = .ok (.isub, 1) := dk_100 (dk_at dksX7_tried_1 0 rfl rfl)
theorem dX7_tried_25 : decode cX7_tried 25 = .ok (.invokevirtual 105, 3) := dk_182 0 105 (dk_at dksX7_tried_1 1 rfl rfl)
theorem dX7_tried_28 : decode cX7_tried 28 = .ok (.ifCond .ne 14, 3) := dk_154 0 14 (dk_at dksX7_tried_1 4 rfl rfl)
theorem dX7_tried_31 : decode cX7_tried 31 = .ok (.iload_n 2, 1) := dk_28 (dk_at dksX7_tried_1 7 rfl rfl)
theorem dX7_tried_32 : decode cX7_tried 32 = .ok (.bipush 30, 2) := dk_16 30 (dk_at dksX7_tried_1 8 rfl rfl)
theorem dX7_tried_34 : decode cX7_tried 34 = .ok (.bipush 41, 2) := dk_16 41 (dk_at dksX7_tried_1 10 rfl rfl)
theorem dX7_tried_36 : decode cX7_tried 36 = .ok (.invokestatic 111, 3) := dk_184 0 111 (dk_at dksX7_tried_1 12 rfl rfl)
theorem dX7_tried_39 : decode cX7_tried 39 = .ok (.ifCond .eq 7, 3) := dk_153 0 7 (dk_at dksX7_tried_1 15 rfl rfl)
theorem dX7_tried_42 : decode cX7_tried 42 = .ok (.iconst 1, 1) := dk_4 (dk_at dksX7_tried_1 18 rfl rfl)
theorem dX7_tried_43 : decode cX7_tried 43 = .ok (.goto 4, 3) := dk_167 0 4 (dk_at dksX7_tried_1 19 rfl rfl)
theorem dX7_tried_46 : decode cX7_tried 46 = .ok (.iconst 0, 1) := dk_3 (dk_at dksX7_tried_1 22 rfl rfl)
theorem dX7_tried_47 : decode cX7_tried 47 = .ok (.istore_n 3, 1) := dk_62 (dk_at dksX7_tried_1 23 rfl rfl)
theorem dX7_tried_48 : decode cX7_tried 48 = .ok (.iload_n 1, 1) := dk_27 (dk_at dksX7_tried_2 0 rfl rfl)
theorem dX7_tried_49 : decode cX7_tried 49 = .ok (.iconst 1, 1) := dk_4 (dk_at dksX7_tried_2 1 rfl rfl)
theorem dX7_tried_50 : decode cX7_tried 50 = .ok (.bipush 60, 2) := dk_16 60 (dk_at dksX7_tried_2 2 rfl rfl)
theorem dX7_tried_52 : decode cX7_tried 52 = .ok (.invokestatic 111, 3) := dk_184 0 111 (dk_at dksX7_tried_2 4 rfl rfl)
theorem dX7_tried_55 : decode cX7_tried 55 = .ok (.ifCond .eq 7, 3) := dk_153 0 7 (dk_at dksX7_tried_2 7 rfl rfl)
theorem dX7_tried_58 : decode cX7_tried 58 = .ok (.iload_n 3, 1) := dk_29 (dk_at dksX7_tried_2 10 rfl rfl)
theorem dX7_tried_59 : decode cX7_tried 59 = .ok (.ifCond .ne 5, 3) := dk_154 0 5 (dk_at dksX7_tried_2 11 rfl rfl)
theorem dX7_tried_62 : decode cX7_tried 62 = .ok (.iconst (-1), 1) := dk_2 (dk_at dksX7_tried_2 14 rfl rfl)
theorem dX7_tried_63 : decode cX7_tried 63 = .ok (.ireturn, 1) := dk_172 (dk_at dksX7_tried_2 15 rfl rfl)
theorem dX7_tried_64 : decode cX7_tried 64 = .ok (.aload_n 0, 1) := dk_42 (dk_at dksX7_tried_2 16 rfl rfl)
theorem dX7_tried_65 : decode cX7_tried 65 = .ok (.getfield 7, 3) := dk_180 0 7 (dk_at dksX7_tried_2 17 rfl rfl)
theorem dX7_tried_68 : decode cX7_tried 68 = .ok (.aload_n 0, 1) := dk_42 (dk_at dksX7_tried_2 20 rfl rfl)
theorem dX7_tried_69 : decode cX7_tried 69 = .ok (.getfield 13, 3) := dk_180 0 13 (dk_at dksX7_tried_2 21 rfl rfl)
theorem dX7_tried_72 : decode cX7_tried 72 = .ok (.invokestatic 317, 3) := dk_184 1 61 (dk_at dksX7_tried_3 0 rfl rfl)
theorem dX7_tried_75 : decode cX7_tried 75 = .ok (.aload_n 0, 1) := dk_42 (dk_at dksX7_tried_3 3 rfl rfl)
theorem dX7_tried_76 : decode cX7_tried 76 = .ok (.iload_n 1, 1) := dk_27 (dk_at dksX7_tried_3 4 rfl rfl)
theorem dX7_tried_77 : decode cX7_tried 77 = .ok (.invokevirtual 314, 3) := dk_182 1 58 (dk_at dksX7_tried_3 5 rfl rfl)
theorem dX7_tried_80 : decode cX7_tried 80 = .ok (.iload_n 2, 1) := dk_28 (dk_at dksX7_tried_3 8 rfl rfl)
theorem dX7_tried_81 : decode cX7_tried 81 = .ok (.ifCond .ne 10, 3) := dk_154 0 10 (dk_at dksX7_tried_3 9 rfl rfl)
theorem dX7_tried_84 : decode cX7_tried 84 = .ok (.aload_n 0, 1) := dk_42 (dk_at dksX7_tried_3 12 rfl rfl)
theorem dX7_tried_85 : decode cX7_tried 85 = .ok (.getfield 289, 3) := dk_180 1 33 (dk_at dksX7_tried_3 13 rfl rfl)
theorem dX7_tried_88 : decode cX7_tried 88 = .ok (.goto 72, 3) := dk_167 0 72 (dk_at dksX7_tried_3 16 rfl rfl)
theorem dX7_tried_91 : decode cX7_tried 91 = .ok (.iload_n 2, 1) := dk_28 (dk_at dksX7_tried_3 19 rfl rfl)
theorem dX7_tried_92 : decode cX7_tried 92 = .ok (.iconst 1, 1) := dk_4 (dk_at dksX7_tried_3 20 rfl rfl)
theorem dX7_tried_93 : decode cX7_tried 93 = .ok (.if_icmp .ne 10, 3) := dk_160 0 10 (dk_at dksX7_tried_3 21 rfl rfl)
theorem dX7_tried_96 : decode cX7_tried 96 = .ok (.aload_n 0, 1) := dk_42 (dk_at dksX7_tried_4 0 rfl rfl)
theorem dX7_tried_97 : decode cX7_tried 97 = .ok (.getfield 280, 3) := dk_180 1 24 (dk_at dksX7_tried_4 1 rfl rfl)
theorem dX7_tried_100 : decode cX7_tried 100 = .ok (.goto 60, 3) := dk_167 0 60 (dk_at dksX7_tried_4 4 rfl rfl)
theorem dX7_tried_103 : decode cX7_tried 103 = .ok (.iload_n 2, 1) := dk_28 (dk_at dksX7_tried_4 7 rfl rfl)
theorem dX7_tried_104 : decode cX7_tried 104 = .ok (.iconst 2, 1) := dk_5 (dk_at dksX7_tried_4 8 rfl rfl)
theorem dX7_tried_105 : decode cX7_tried 105 = .ok (.if_icmp .ne 10, 3) := dk_160 0 10 (dk_at dksX7_tried_4 9 rfl rfl)
theorem dX7_tried_108 : decode cX7_tried 108 = .ok (.aload_n 0, 1) := dk_42 (dk_at dksX7_tried_4 12 rfl rfl)
theorem dX7_tried_109 : decode cX7_tried 109 = .ok (.getfield 302, 3) := dk_180 1 46 (dk_at dksX7_tried_4 13 rfl rfl)
theorem dX7_tried_112 : decode cX7_tried 112 = .ok (.goto 48, 3) := dk_167 0 48 (dk_at dksX7_tried_4 16 rfl rfl)
theorem dX7_tried_115 : decode cX7_tried 115 = .ok (.iload_n 2, 1) := dk_28 (dk_at dksX7_tried_4 19 rfl rfl)
theorem dX7_tried_116 : decode cX7_tried 116 = .ok (.iconst 3, 1) := dk_6 (dk_at dksX7_tried_4 20 rfl rfl)
theorem dX7_tried_117 : decode cX7_tried 117 = .ok (.if_icmp .ne 10, 3) := dk_160 0 10 (dk_at dksX7_tried_4 21 rfl rfl)
theorem dX7_tried_120 : decode cX7_tried 120 = .ok (.aload_n 0, 1) := dk_42 (dk_at dksX7_tried_5 0 rfl rfl)
theorem dX7_tried_121 : decode cX7_tried 121 = .ok (.invokevirtual 321, 3) := dk_182 1 65 (dk_at dksX7_tried_5 1 rfl rfl)
theorem dX7_tried_124 : decode cX7_tried 124 = .ok (.goto 36, 3) := dk_167 0 36 (dk_at dksX7_tried_5 4 rfl rfl)
theorem dX7_tried_127 : decode cX7_tried 127 = .ok (.iload_n 2, 1) := dk_28 (dk_at dksX7_tried_5 7 rfl rfl)
theorem dX7_tried_128 : decode cX7_tried 128 = .ok (.bipush 30, 2) := dk_16 30 (dk_at dksX7_tried_5 8 rfl rfl)
theorem dX7_tried_130 : decode cX7_tried 130 = .ok (.if_icmp .ge 18, 3) := dk_162 0 18 (dk_at dksX7_tried_5 10 rfl rfl)
theorem dX7_tried_133 : decode cX7_tried 133 = .ok (.aload_n 0, 1) := dk_42 (dk_at dksX7_tried_5 13 rfl rfl)
theorem dX7_tried_134 : decode cX7_tried 134 = .ok (.getfield 7, 3) := dk_180 0 7 (dk_at dksX7_tried_5 14 rfl rfl)
theorem dX7_tried_137 : decode cX7_tried 137 = .ok (.bipush 24, 2) := dk_16 24 (dk_at dksX7_tried_5 17 rfl rfl)
theorem dX7_tried_139 : decode cX7_tried 139 = .ok (.iload_n 2, 1) := dk_28 (dk_at dksX7_tried_5 19 rfl rfl)
theorem dX7_tried_140 : decode cX7_tried 140 = .ok (.iadd, 1) := dk_96 (dk_at dksX7_tried_5 20 rfl rfl)
theorem dX7_tried_141 : decode cX7_tried 141 = .ok (.bipush 10, 2) := dk_16 10 (dk_at dksX7_tried_5 21 rfl rfl)
theorem dX7_tried_143 : decode cX7_tried 143 = .ok (.isub, 1) := dk_100 (dk_at dksX7_tried_5 23 rfl rfl)
theorem dX7_tried_144 : decode cX7_tried 144 = .ok (.iaload, 1) := dk_46 (dk_at dksX7_tried_6 0 rfl rfl)
theorem dX7_tried_145 : decode cX7_tried 145 = .ok (.goto 15, 3) := dk_167 0 15 (dk_at dksX7_tried_6 1 rfl rfl)
theorem dX7_tried_148 : decode cX7_tried 148 = .ok (.aload_n 0, 1) := dk_42 (dk_at dksX7_tried_6 4 rfl rfl)
theorem dX7_tried_149 : decode cX7_tried 149 = .ok (.getfield 7, 3) := dk_180 0 7 (dk_at dksX7_tried_6 5 rfl rfl)
theorem dX7_tried_152 : decode cX7_tried 152 = .ok (.bipush 72, 2) := dk_16 72 (dk_at dksX7_tried_6 8 rfl rfl)
theorem dX7_tried_154 : decode cX7_tried 154 = .ok (.iload_n 2, 1) := dk_28 (dk_at dksX7_tried_6 10 rfl rfl)
theorem dX7_tried_155 : decode cX7_tried 155 = .ok (.iadd, 1) := dk_96 (dk_at dksX7_tried_6 11 rfl rfl)
theorem dX7_tried_156 : decode cX7_tried 156 = .ok (.bipush 30, 2) := dk_16 30 (dk_at dksX7_tried_6 12 rfl rfl)
theorem dX7_tried_158 : decode cX7_tried 158 = .ok (.isub, 1) := dk_100 (dk_at dksX7_tried_6 14 rfl rfl)
theorem dX7_tried_159 : decode cX7_tried 159 = .ok (.iaload, 1) := dk_46 (dk_at dksX7_tried_6 15 rfl rfl)
theorem dX7_tried_160 : decode cX7_tried 160 = .ok (.istore 4, 2) := dk_54 4 (dk_at dksX7_tried_6 16 rfl rfl)
theorem dX7_tried_162 : decode cX7_tried 162 = .ok (.aload_n 0, 1) := dk_42 (dk_at dksX7_tried_6 18 rfl rfl)
theorem dX7_tried_163 : decode cX7_tried 163 = .ok (.getfield 13, 3) := dk_180 0 13 (dk_at dksX7_tried_6 19 rfl rfl)
theorem dX7_tried_166 : decode cX7_tried 166 = .ok (.aload_n 0, 1) := dk_42 (dk_at dksX7_tried_6 22 rfl rfl)
theorem dX7_tried_167 : decode cX7_tried 167 = .ok (.getfield 7, 3) := dk_180 0 7 (dk_at dksX7_tried_7 0 rfl rfl)
theorem dX7_tried_170 : decode cX7_tried 170 = .ok (.invokestatic 317, 3) := dk_184 1 61 (dk_at dksX7_tried_7 3 rfl rfl)
theorem dX7_tried_173 : decode cX7_tried 173 = .ok (.iload 4, 2) := dk_21 4 (dk_at dksX7_tried_7 6 rfl rfl)
theorem dX7_tried_175 : decode cX7_tried 175 = .ok (.ireturn, 1) := dk_172 (dk_at dksX7_tried_7 8 rfl rfl)
abbrev cX7_copiesRow : ByteArray := prog_21_method_8_code
def yX7_copiesRow : MethodName := ⟨RX7, "copiesRow", "([I[I)V"⟩
def dkwX7_copiesRow_0 : List UInt8 := [3, 61, 28, 17, 7, 144, 162, 0, 15, 43, 28, 42, 28, 46, 79, 132, 2, 1, 167, 255, 240, 177]
abbrev dktX7_copiesRow_0 : List UInt8 := dkwX7_copiesRow_0 ++ []
theorem dksX7_copiesRow_0 : cX7_copiesRow.data.toList.drop 0 = dktX7_copiesRow_0 := by decide +kernel
theorem dX7_copiesRow_0 : decode cX7_copiesRow 0 = .ok (.iconst 0, 1) := dk_3 (dk_at dksX7_copiesRow_0 0 rfl rfl)
theorem dX7_copiesRow_1 : decode cX7_copiesRow 1 = .ok (.istore_n 2, 1) := dk_61 (dk_at dksX7_copiesRow_0 1 rfl rfl)
theorem dX7_copiesRow_2 : decode cX7_copiesRow 2 = .ok (.iload_n 2, 1) := dk_28 (dk_at dksX7_copiesRow_0 2 rfl rfl)
theorem dX7_copiesRow_3 : decode cX7_copiesRow 3 = .ok (.sipush 1936, 3) := dk_17 7 144 (dk_at dksX7_copiesRow_0 3 rfl rfl)
theorem dX7_copiesRow_6 : decode cX7_copiesRow 6 = .ok (.if_icmp .ge 15, 3) := dk_162 0 15 (dk_at dksX7_copiesRow_0 6 rfl rfl)
theorem dX7_copiesRow_9 : decode cX7_copiesRow 9 = .ok (.aload_n 1, 1) := dk_43 (dk_at dksX7_copiesRow_0 9 rfl rfl)
theorem dX7_copiesRow_10 : decode cX7_copiesRow 10 = .ok (.iload_n 2, 1) := dk_28 (dk_at dksX7_copiesRow_0 10 rfl rfl)
theorem dX7_copiesRow_11 : decode cX7_copiesRow 11 = .ok (.aload_n 0, 1) := dk_42 (dk_at dksX7_copiesRow_0 11 rfl rfl)
theorem dX7_copiesRow_12 : decode cX7_copiesRow 12 = .ok (.iload_n 2, 1) := dk_28 (dk_at dksX7_copiesRow_0 12 rfl rfl)
theorem dX7_copiesRow_13 : decode cX7_copiesRow 13 = .ok (.iaload, 1) := dk_46 (dk_at dksX7_copiesRow_0 13 rfl rfl)
theorem dX7_copiesRow_14 : decode cX7_copiesRow 14 = .ok (.iastore, 1) := dk_79 (dk_at dksX7_copiesRow_0 14 rfl rfl)
theorem dX7_copiesRow_15 : decode cX7_copiesRow 15 = .ok (.iinc 2 1, 3) := dk_132 2 1 (dk_at dksX7_copiesRow_0 15 rfl rfl)
theorem dX7_copiesRow_18 : decode cX7_copiesRow 18 = .ok (.goto (-16), 3) := dk_167 255 240 (dk_at dksX7_copiesRow_0 18 rfl rfl)
theorem dX7_copiesRow_21 : decode cX7_copiesRow 21 = .ok (.return_, 1) := dk_177 (dk_at dksX7_copiesRow_0 21 rfl rfl)
abbrev cX7_wedTwos : ByteArray := prog_21_method_66_code
def yX7_wedTwos : MethodName := ⟨RX7, "wedTwos", "()I"⟩
def dkwX7_wedTwos_1 : List UInt8 := [4, 167, 0, 4, 3, 96, 60, 132, 2, 1, 167, 255, 226, 27, 172]
abbrev dktX7_wedTwos_1 : List UInt8 := dkwX7_wedTwos_1 ++ []
def dkwX7_wedTwos_0 : List UInt8 := [3, 60, 3, 61, 28, 16, 12, 162, 0, 30, 27, 42, 180, 0, 7, 16, 24, 28, 96, 46, 28, 164, 0, 7]
abbrev dktX7_wedTwos_0 : List UInt8 := dkwX7_wedTwos_0 ++ dktX7_wedTwos_1
theorem dksX7_wedTwos_0 : cX7_wedTwos.data.toList.drop 0 = dktX7_wedTwos_0 := by decide +kernel
theorem dksX7_wedTwos_1 : cX7_wedTwos.data.toList.drop 24 = dktX7_wedTwos_1 := dk_seg dksX7_wedTwos_0 24 rfl rfl
theorem dX7_wedTwos_0 : decode cX7_wedTwos 0 = .ok (.iconst 0, 1) := dk_3 (dk_at dksX7_wedTwos_0 0 rfl rfl)
theorem dX7_wedTwos_1 : decode cX7_wedTwos 1 = .ok (.istore_n 1, 1) := dk_60 (dk_at dksX7_wedTwos_0 1 rfl rfl)
theorem dX7_wedTwos_2 : decode cX7_wedTwos 2 = .ok (.iconst 0, 1) := dk_3 (dk_at dksX7_wedTwos_0 2 rfl rfl)
theorem dX7_wedTwos_3 : decode cX7_wedTwos 3 = .ok (.istore_n 2, 1) := dk_61 (dk_at dksX7_wedTwos_0 3 rfl rfl)
theorem dX7_wedTwos_4 : decode cX7_wedTwos 4 = .ok (.iload_n 2, 1) := dk_28 (dk_at dksX7_wedTwos_0 4 rfl rfl)
theorem dX7_wedTwos_5 : decode cX7_wedTwos 5 = .ok (.bipush 12, 2) := dk_16 12 (dk_at dksX7_wedTwos_0 5 rfl rfl)
theorem dX7_wedTwos_7 : decode cX7_wedTwos 7 = .ok (.if_icmp .ge 30, 3) := dk_162 0 30 (dk_at dksX7_wedTwos_0 7 rfl rfl)
theorem dX7_wedTwos_10 : decode cX7_wedTwos 10 = .ok (.iload_n 1, 1) := dk_27 (dk_at dksX7_wedTwos_0 10 rfl rfl)
theorem dX7_wedTwos_11 : decode cX7_wedTwos 11 = .ok (.aload_n 0, 1) := dk_42 (dk_at dksX7_wedTwos_0 11 rfl rfl)
theorem dX7_wedTwos_12 : decode cX7_wedTwos 12 = .ok (.getfield 7, 3) := dk_180 0 7 (dk_at dksX7_wedTwos_0 12 rfl rfl)
theorem dX7_wedTwos_15 : decode cX7_wedTwos 15 = .ok (.bipush 24, 2) := dk_16 24 (dk_at dksX7_wedTwos_0 15 rfl rfl)
theorem dX7_wedTwos_17 : decode cX7_wedTwos 17 = .ok (.iload_n 2, 1) := dk_28 (dk_at dksX7_wedTwos_0 17 rfl rfl)
theorem dX7_wedTwos_18 : decode cX7_wedTwos 18 = .ok (.iadd, 1) := dk_96 (dk_at dksX7_wedTwos_0 18 rfl rfl)
theorem dX7_wedTwos_19 : decode cX7_wedTwos 19 = .ok (.iaload, 1) := dk_46 (dk_at dksX7_wedTwos_0 19 rfl rfl)
theorem dX7_wedTwos_20 : decode cX7_wedTwos 20 = .ok (.iload_n 2, 1) := dk_28 (dk_at dksX7_wedTwos_0 20 rfl rfl)
theorem dX7_wedTwos_21 : decode cX7_wedTwos 21 = .ok (.if_icmp .le 7, 3) := dk_164 0 7 (dk_at dksX7_wedTwos_0 21 rfl rfl)
theorem dX7_wedTwos_24 : decode cX7_wedTwos 24 = .ok (.iconst 1, 1) := dk_4 (dk_at dksX7_wedTwos_1 0 rfl rfl)
theorem dX7_wedTwos_25 : decode cX7_wedTwos 25 = .ok (.goto 4, 3) := dk_167 0 4 (dk_at dksX7_wedTwos_1 1 rfl rfl)
theorem dX7_wedTwos_28 : decode cX7_wedTwos 28 = .ok (.iconst 0, 1) := dk_3 (dk_at dksX7_wedTwos_1 4 rfl rfl)
theorem dX7_wedTwos_29 : decode cX7_wedTwos 29 = .ok (.iadd, 1) := dk_96 (dk_at dksX7_wedTwos_1 5 rfl rfl)
theorem dX7_wedTwos_30 : decode cX7_wedTwos 30 = .ok (.istore_n 1, 1) := dk_60 (dk_at dksX7_wedTwos_1 6 rfl rfl)
theorem dX7_wedTwos_31 : decode cX7_wedTwos 31 = .ok (.iinc 2 1, 3) := dk_132 2 1 (dk_at dksX7_wedTwos_1 7 rfl rfl)
theorem dX7_wedTwos_34 : decode cX7_wedTwos 34 = .ok (.goto (-30), 3) := dk_167 255 226 (dk_at dksX7_wedTwos_1 10 rfl rfl)
theorem dX7_wedTwos_37 : decode cX7_wedTwos 37 = .ok (.iload_n 1, 1) := dk_27 (dk_at dksX7_wedTwos_1 13 rfl rfl)
theorem dX7_wedTwos_38 : decode cX7_wedTwos 38 = .ok (.ireturn, 1) := dk_172 (dk_at dksX7_wedTwos_1 14 rfl rfl)
abbrev cX7_personIs : ByteArray := prog_21_method_69_code
def yX7_personIs : MethodName := ⟨RX7, "personIs", "(II)I"⟩
def dkwX7_personIs_6 : List UInt8 := [16, 60, 27, 96, 46, 172, 2, 172]
abbrev dktX7_personIs_6 : List UInt8 := dkwX7_personIs_6 ++ []
def dkwX7_personIs_5 : List UInt8 := [180, 0, 7, 16, 96, 27, 96, 46, 42, 180, 0, 7, 16, 84, 27, 96, 46, 100, 172, 42, 180, 0, 7]
abbrev dktX7_personIs_5 : List UInt8 := dkwX7_personIs_5 ++ dktX7_personIs_6
def dkwX7_personIs_4 : List UInt8 := [4, 167, 0, 4, 3, 172, 42, 180, 0, 7, 16, 48, 27, 96, 46, 172, 42, 27, 182, 1, 68, 172, 42]
abbrev dktX7_personIs_4 : List UInt8 := dkwX7_personIs_4 ++ dktX7_personIs_5
def dkwX7_personIs_3 : List UInt8 := [16, 24, 27, 96, 46, 172, 42, 180, 0, 7, 16, 36, 27, 96, 46, 172, 42, 27, 182, 0, 108, 153, 0, 7]
abbrev dktX7_personIs_3 : List UInt8 := dkwX7_personIs_3 ++ dktX7_personIs_4
def dkwX7_personIs_2 : List UInt8 := [42, 180, 0, 7, 3, 27, 96, 46, 172, 42, 180, 0, 7, 16, 12, 27, 96, 46, 172, 42, 180, 0, 7]
abbrev dktX7_personIs_2 : List UInt8 := dkwX7_personIs_2 ++ dktX7_personIs_3
def dkwX7_personIs_1 : List UInt8 := [170, 0, 0, 0, 148, 0, 0, 0, 0, 0, 0, 0, 8, 0, 0, 0, 49, 0, 0, 0, 58, 0, 0, 0, 68, 0, 0, 0, 78, 0, 0, 0, 88, 0, 0, 0, 102, 0, 0, 0, 112, 0, 0, 0, 118, 0, 0, 0, 138]
abbrev dktX7_personIs_1 : List UInt8 := dkwX7_personIs_1 ++ dktX7_personIs_2
def dkwX7_personIs_0 : List UInt8 := [42, 27, 182, 0, 105, 154, 0, 5, 2, 172, 28]
abbrev dktX7_personIs_0 : List UInt8 := dkwX7_personIs_0 ++ dktX7_personIs_1
theorem dksX7_personIs_0 : cX7_personIs.data.toList.drop 0 = dktX7_personIs_0 := by decide +kernel
theorem dksX7_personIs_1 : cX7_personIs.data.toList.drop 11 = dktX7_personIs_1 := dk_seg dksX7_personIs_0 11 rfl rfl
theorem dksX7_personIs_2 : cX7_personIs.data.toList.drop 60 = dktX7_personIs_2 := dk_seg dksX7_personIs_1 49 rfl rfl
theorem dksX7_personIs_3 : cX7_personIs.data.toList.drop 83 = dktX7_personIs_3 := dk_seg dksX7_personIs_2 23 rfl rfl
theorem dksX7_personIs_4 : cX7_personIs.data.toList.drop 107 = dktX7_personIs_4 := dk_seg dksX7_personIs_3 24 rfl rfl
theorem dksX7_personIs_5 : cX7_personIs.data.toList.drop 130 = dktX7_personIs_5 := dk_seg dksX7_personIs_4 23 rfl rfl
theorem dksX7_personIs_6 : cX7_personIs.data.toList.drop 153 = dktX7_personIs_6 := dk_seg dksX7_personIs_5 23 rfl rfl
theorem dX7_personIs_0 : decode cX7_personIs 0 = .ok (.aload_n 0, 1) := dk_42 (dk_at dksX7_personIs_0 0 rfl rfl)
theorem dX7_personIs_1 : decode cX7_personIs 1 = .ok (.iload_n 1, 1) := dk_27 (dk_at dksX7_personIs_0 1 rfl rfl)
theorem dX7_personIs_2 : decode cX7_personIs 2 = .ok (.invokevirtual 105, 3) := dk_182 0 105 (dk_at dksX7_personIs_0 2 rfl rfl)
theorem dX7_personIs_5 : decode cX7_personIs 5 = .ok (.ifCond .ne 5, 3) := dk_154 0 5 (dk_at dksX7_personIs_0 5 rfl rfl)
theorem dX7_personIs_8 : decode cX7_personIs 8 = .ok (.iconst (-1), 1) := dk_2 (dk_at dksX7_personIs_0 8 rfl rfl)
theorem dX7_personIs_9 : decode cX7_personIs 9 = .ok (.ireturn, 1) := dk_172 (dk_at dksX7_personIs_0 9 rfl rfl)
theorem dX7_personIs_10 : decode cX7_personIs 10 = .ok (.iload_n 2, 1) := dk_28 (dk_at dksX7_personIs_0 10 rfl rfl)
theorem dX7_personIs_11 : decode cX7_personIs 11 = .ok (.tableswitch 148 0 8 #[49, 58, 68, 78, 88, 102, 112, 118, 138], 49) := by decide +kernel
theorem dX7_personIs_60 : decode cX7_personIs 60 = .ok (.aload_n 0, 1) := dk_42 (dk_at dksX7_personIs_2 0 rfl rfl)
theorem dX7_personIs_61 : decode cX7_personIs 61 = .ok (.getfield 7, 3) := dk_180 0 7 (dk_at dksX7_personIs_2 1 rfl rfl)
theorem dX7_personIs_64 : decode cX7_personIs 64 = .ok (.iconst 0, 1) := dk_3 (dk_at dksX7_personIs_2 4 rfl rfl)
theorem dX7_personIs_65 : decode cX7_personIs 65 = .ok (.iload_n 1, 1) := dk_27 (dk_at dksX7_personIs_2 5 rfl rfl)
theorem dX7_personIs_66 : decode cX7_personIs 66 = .ok (.iadd, 1) := dk_96 (dk_at dksX7_personIs_2 6 rfl rfl)
theorem dX7_personIs_67 : decode cX7_personIs 67 = .ok (.iaload, 1) := dk_46 (dk_at dksX7_personIs_2 7 rfl rfl)
theorem dX7_personIs_68 : decode cX7_personIs 68 = .ok (.ireturn, 1) := dk_172 (dk_at dksX7_personIs_2 8 rfl rfl)
theorem dX7_personIs_69 : decode cX7_personIs 69 = .ok (.aload_n 0, 1) := dk_42 (dk_at dksX7_personIs_2 9 rfl rfl)
theorem dX7_personIs_70 : decode cX7_personIs 70 = .ok (.getfield 7, 3) := dk_180 0 7 (dk_at dksX7_personIs_2 10 rfl rfl)
theorem dX7_personIs_73 : decode cX7_personIs 73 = .ok (.bipush 12, 2) := dk_16 12 (dk_at dksX7_personIs_2 13 rfl rfl)
theorem dX7_personIs_75 : decode cX7_personIs 75 = .ok (.iload_n 1, 1) := dk_27 (dk_at dksX7_personIs_2 15 rfl rfl)
theorem dX7_personIs_76 : decode cX7_personIs 76 = .ok (.iadd, 1) := dk_96 (dk_at dksX7_personIs_2 16 rfl rfl)
theorem dX7_personIs_77 : decode cX7_personIs 77 = .ok (.iaload, 1) := dk_46 (dk_at dksX7_personIs_2 17 rfl rfl)
theorem dX7_personIs_78 : decode cX7_personIs 78 = .ok (.ireturn, 1) := dk_172 (dk_at dksX7_personIs_2 18 rfl rfl)
theorem dX7_personIs_79 : decode cX7_personIs 79 = .ok (.aload_n 0, 1) := dk_42 (dk_at dksX7_personIs_2 19 rfl rfl)
theorem dX7_personIs_80 : decode cX7_personIs 80 = .ok (.getfield 7, 3) := dk_180 0 7 (dk_at dksX7_personIs_2 20 rfl rfl)
theorem dX7_personIs_83 : decode cX7_personIs 83 = .ok (.bipush 24, 2) := dk_16 24 (dk_at dksX7_personIs_3 0 rfl rfl)
theorem dX7_personIs_85 : decode cX7_personIs 85 = .ok (.iload_n 1, 1) := dk_27 (dk_at dksX7_personIs_3 2 rfl rfl)
theorem dX7_personIs_86 : decode cX7_personIs 86 = .ok (.iadd, 1) := dk_96 (dk_at dksX7_personIs_3 3 rfl rfl)
theorem dX7_personIs_87 : decode cX7_personIs 87 = .ok (.iaload, 1) := dk_46 (dk_at dksX7_personIs_3 4 rfl rfl)
theorem dX7_personIs_88 : decode cX7_personIs 88 = .ok (.ireturn, 1) := dk_172 (dk_at dksX7_personIs_3 5 rfl rfl)
theorem dX7_personIs_89 : decode cX7_personIs 89 = .ok (.aload_n 0, 1) := dk_42 (dk_at dksX7_personIs_3 6 rfl rfl)
theorem dX7_personIs_90 : decode cX7_personIs 90 = .ok (.getfield 7, 3) := dk_180 0 7 (dk_at dksX7_personIs_3 7 rfl rfl)
theorem dX7_personIs_93 : decode cX7_personIs 93 = .ok (.bipush 36, 2) := dk_16 36 (dk_at dksX7_personIs_3 10 rfl rfl)
theorem dX7_personIs_95 : decode cX7_personIs 95 = .ok (.iload_n 1, 1) := dk_27 (dk_at dksX7_personIs_3 12 rfl rfl)
theorem dX7_personIs_96 : decode cX7_personIs 96 = .ok (.iadd, 1) := dk_96 (dk_at dksX7_personIs_3 13 rfl rfl)
theorem dX7_personIs_97 : decode cX7_personIs 97 = .ok (.iaload, 1) := dk_46 (dk_at dksX7_personIs_3 14 rfl rfl)
theorem dX7_personIs_98 : decode cX7_personIs 98 = .ok (.ireturn, 1) := dk_172 (dk_at dksX7_personIs_3 15 rfl rfl)
theorem dX7_personIs_99 : decode cX7_personIs 99 = .ok (.aload_n 0, 1) := dk_42 (dk_at dksX7_personIs_3 16 rfl rfl)
theorem dX7_personIs_100 : decode cX7_personIs 100 = .ok (.iload_n 1, 1) := dk_27 (dk_at dksX7_personIs_3 17 rfl rfl)
theorem dX7_personIs_101 : decode cX7_personIs 101 = .ok (.invokevirtual 108, 3) := dk_182 0 108 (dk_at dksX7_personIs_3 18 rfl rfl)
theorem dX7_personIs_104 : decode cX7_personIs 104 = .ok (.ifCond .eq 7, 3) := dk_153 0 7 (dk_at dksX7_personIs_3 21 rfl rfl)
theorem dX7_personIs_107 : decode cX7_personIs 107 = .ok (.iconst 1, 1) := dk_4 (dk_at dksX7_personIs_4 0 rfl rfl)
theorem dX7_personIs_108 : decode cX7_personIs 108 = .ok (.goto 4, 3) := dk_167 0 4 (dk_at dksX7_personIs_4 1 rfl rfl)
theorem dX7_personIs_111 : decode cX7_personIs 111 = .ok (.iconst 0, 1) := dk_3 (dk_at dksX7_personIs_4 4 rfl rfl)
theorem dX7_personIs_112 : decode cX7_personIs 112 = .ok (.ireturn, 1) := dk_172 (dk_at dksX7_personIs_4 5 rfl rfl)
theorem dX7_personIs_113 : decode cX7_personIs 113 = .ok (.aload_n 0, 1) := dk_42 (dk_at dksX7_personIs_4 6 rfl rfl)
theorem dX7_personIs_114 : decode cX7_personIs 114 = .ok (.getfield 7, 3) := dk_180 0 7 (dk_at dksX7_personIs_4 7 rfl rfl)
theorem dX7_personIs_117 : decode cX7_personIs 117 = .ok (.bipush 48, 2) := dk_16 48 (dk_at dksX7_personIs_4 10 rfl rfl)
theorem dX7_personIs_119 : decode cX7_personIs 119 = .ok (.iload_n 1, 1) := dk_27 (dk_at dksX7_personIs_4 12 rfl rfl)
theorem dX7_personIs_120 : decode cX7_personIs 120 = .ok (.iadd, 1) := dk_96 (dk_at dksX7_personIs_4 13 rfl rfl)
theorem dX7_personIs_121 : decode cX7_personIs 121 = .ok (.iaload, 1) := dk_46 (dk_at dksX7_personIs_4 14 rfl rfl)
theorem dX7_personIs_122 : decode cX7_personIs 122 = .ok (.ireturn, 1) := dk_172 (dk_at dksX7_personIs_4 15 rfl rfl)
theorem dX7_personIs_123 : decode cX7_personIs 123 = .ok (.aload_n 0, 1) := dk_42 (dk_at dksX7_personIs_4 16 rfl rfl)
theorem dX7_personIs_124 : decode cX7_personIs 124 = .ok (.iload_n 1, 1) := dk_27 (dk_at dksX7_personIs_4 17 rfl rfl)
theorem dX7_personIs_125 : decode cX7_personIs 125 = .ok (.invokevirtual 324, 3) := dk_182 1 68 (dk_at dksX7_personIs_4 18 rfl rfl)
theorem dX7_personIs_128 : decode cX7_personIs 128 = .ok (.ireturn, 1) := dk_172 (dk_at dksX7_personIs_4 21 rfl rfl)
theorem dX7_personIs_129 : decode cX7_personIs 129 = .ok (.aload_n 0, 1) := dk_42 (dk_at dksX7_personIs_4 22 rfl rfl)
theorem dX7_personIs_130 : decode cX7_personIs 130 = .ok (.getfield 7, 3) := dk_180 0 7 (dk_at dksX7_personIs_5 0 rfl rfl)
theorem dX7_personIs_133 : decode cX7_personIs 133 = .ok (.bipush 96, 2) := dk_16 96 (dk_at dksX7_personIs_5 3 rfl rfl)
theorem dX7_personIs_135 : decode cX7_personIs 135 = .ok (.iload_n 1, 1) := dk_27 (dk_at dksX7_personIs_5 5 rfl rfl)
theorem dX7_personIs_136 : decode cX7_personIs 136 = .ok (.iadd, 1) := dk_96 (dk_at dksX7_personIs_5 6 rfl rfl)
theorem dX7_personIs_137 : decode cX7_personIs 137 = .ok (.iaload, 1) := dk_46 (dk_at dksX7_personIs_5 7 rfl rfl)
theorem dX7_personIs_138 : decode cX7_personIs 138 = .ok (.aload_n 0, 1) := dk_42 (dk_at dksX7_personIs_5 8 rfl rfl)
theorem dX7_personIs_139 : decode cX7_personIs 139 = .ok (.getfield 7, 3) := dk_180 0 7 (dk_at dksX7_personIs_5 9 rfl rfl)
theorem dX7_personIs_142 : decode cX7_personIs 142 = .ok (.bipush 84, 2) := dk_16 84 (dk_at dksX7_personIs_5 12 rfl rfl)
theorem dX7_personIs_144 : decode cX7_personIs 144 = .ok (.iload_n 1, 1) := dk_27 (dk_at dksX7_personIs_5 14 rfl rfl)
theorem dX7_personIs_145 : decode cX7_personIs 145 = .ok (.iadd, 1) := dk_96 (dk_at dksX7_personIs_5 15 rfl rfl)
theorem dX7_personIs_146 : decode cX7_personIs 146 = .ok (.iaload, 1) := dk_46 (dk_at dksX7_personIs_5 16 rfl rfl)
theorem dX7_personIs_147 : decode cX7_personIs 147 = .ok (.isub, 1) := dk_100 (dk_at dksX7_personIs_5 17 rfl rfl)
theorem dX7_personIs_148 : decode cX7_personIs 148 = .ok (.ireturn, 1) := dk_172 (dk_at dksX7_personIs_5 18 rfl rfl)
theorem dX7_personIs_149 : decode cX7_personIs 149 = .ok (.aload_n 0, 1) := dk_42 (dk_at dksX7_personIs_5 19 rfl rfl)
theorem dX7_personIs_150 : decode cX7_personIs 150 = .ok (.getfield 7, 3) := dk_180 0 7 (dk_at dksX7_personIs_5 20 rfl rfl)
theorem dX7_personIs_153 : decode cX7_personIs 153 = .ok (.bipush 60, 2) := dk_16 60 (dk_at dksX7_personIs_6 0 rfl rfl)
theorem dX7_personIs_155 : decode cX7_personIs 155 = .ok (.iload_n 1, 1) := dk_27 (dk_at dksX7_personIs_6 2 rfl rfl)
theorem dX7_personIs_156 : decode cX7_personIs 156 = .ok (.iadd, 1) := dk_96 (dk_at dksX7_personIs_6 3 rfl rfl)
theorem dX7_personIs_157 : decode cX7_personIs 157 = .ok (.iaload, 1) := dk_46 (dk_at dksX7_personIs_6 4 rfl rfl)
theorem dX7_personIs_158 : decode cX7_personIs 158 = .ok (.ireturn, 1) := dk_172 (dk_at dksX7_personIs_6 5 rfl rfl)
theorem dX7_personIs_159 : decode cX7_personIs 159 = .ok (.iconst (-1), 1) := dk_2 (dk_at dksX7_personIs_6 6 rfl rfl)
theorem dX7_personIs_160 : decode cX7_personIs 160 = .ok (.ireturn, 1) := dk_172 (dk_at dksX7_personIs_6 7 rfl rfl)
abbrev cX7_fitting : ByteArray := prog_21_method_68_code
def yX7_fitting : MethodName := ⟨RX7, "fitting", "(I)I"⟩
def dkwX7_fitting_1 : List UInt8 := [27, 29, 182, 1, 30, 153, 0, 9, 28, 4, 29, 120, 128, 61, 132, 3, 1, 167, 255, 219, 28, 172]
abbrev dktX7_fitting_1 : List UInt8 := dkwX7_fitting_1 ++ []
def dkwX7_fitting_0 : List UInt8 := [3, 61, 3, 62, 29, 16, 12, 162, 0, 37, 29, 27, 159, 0, 26, 42, 29, 182, 0, 108, 153, 0, 18, 42]
abbrev dktX7_fitting_0 : List UInt8 := dkwX7_fitting_0 ++ dktX7_fitting_1
theorem dksX7_fitting_0 : cX7_fitting.data.toList.drop 0 = dktX7_fitting_0 := by decide +kernel
theorem dksX7_fitting_1 : cX7_fitting.data.toList.drop 24 = dktX7_fitting_1 := dk_seg dksX7_fitting_0 24 rfl rfl
theorem dX7_fitting_0 : decode cX7_fitting 0 = .ok (.iconst 0, 1) := dk_3 (dk_at dksX7_fitting_0 0 rfl rfl)
theorem dX7_fitting_1 : decode cX7_fitting 1 = .ok (.istore_n 2, 1) := dk_61 (dk_at dksX7_fitting_0 1 rfl rfl)
theorem dX7_fitting_2 : decode cX7_fitting 2 = .ok (.iconst 0, 1) := dk_3 (dk_at dksX7_fitting_0 2 rfl rfl)
theorem dX7_fitting_3 : decode cX7_fitting 3 = .ok (.istore_n 3, 1) := dk_62 (dk_at dksX7_fitting_0 3 rfl rfl)
theorem dX7_fitting_4 : decode cX7_fitting 4 = .ok (.iload_n 3, 1) := dk_29 (dk_at dksX7_fitting_0 4 rfl rfl)
theorem dX7_fitting_5 : decode cX7_fitting 5 = .ok (.bipush 12, 2) := dk_16 12 (dk_at dksX7_fitting_0 5 rfl rfl)
theorem dX7_fitting_7 : decode cX7_fitting 7 = .ok (.if_icmp .ge 37, 3) := dk_162 0 37 (dk_at dksX7_fitting_0 7 rfl rfl)
theorem dX7_fitting_10 : decode cX7_fitting 10 = .ok (.iload_n 3, 1) := dk_29 (dk_at dksX7_fitting_0 10 rfl rfl)
theorem dX7_fitting_11 : decode cX7_fitting 11 = .ok (.iload_n 1, 1) := dk_27 (dk_at dksX7_fitting_0 11 rfl rfl)
theorem dX7_fitting_12 : decode cX7_fitting 12 = .ok (.if_icmp .eq 26, 3) := dk_159 0 26 (dk_at dksX7_fitting_0 12 rfl rfl)
theorem dX7_fitting_15 : decode cX7_fitting 15 = .ok (.aload_n 0, 1) := dk_42 (dk_at dksX7_fitting_0 15 rfl rfl)
theorem dX7_fitting_16 : decode cX7_fitting 16 = .ok (.iload_n 3, 1) := dk_29 (dk_at dksX7_fitting_0 16 rfl rfl)
theorem dX7_fitting_17 : decode cX7_fitting 17 = .ok (.invokevirtual 108, 3) := dk_182 0 108 (dk_at dksX7_fitting_0 17 rfl rfl)
theorem dX7_fitting_20 : decode cX7_fitting 20 = .ok (.ifCond .eq 18, 3) := dk_153 0 18 (dk_at dksX7_fitting_0 20 rfl rfl)
theorem dX7_fitting_23 : decode cX7_fitting 23 = .ok (.aload_n 0, 1) := dk_42 (dk_at dksX7_fitting_0 23 rfl rfl)
theorem dX7_fitting_24 : decode cX7_fitting 24 = .ok (.iload_n 1, 1) := dk_27 (dk_at dksX7_fitting_1 0 rfl rfl)
theorem dX7_fitting_25 : decode cX7_fitting 25 = .ok (.iload_n 3, 1) := dk_29 (dk_at dksX7_fitting_1 1 rfl rfl)
theorem dX7_fitting_26 : decode cX7_fitting 26 = .ok (.invokevirtual 286, 3) := dk_182 1 30 (dk_at dksX7_fitting_1 2 rfl rfl)
theorem dX7_fitting_29 : decode cX7_fitting 29 = .ok (.ifCond .eq 9, 3) := dk_153 0 9 (dk_at dksX7_fitting_1 5 rfl rfl)
theorem dX7_fitting_32 : decode cX7_fitting 32 = .ok (.iload_n 2, 1) := dk_28 (dk_at dksX7_fitting_1 8 rfl rfl)
theorem dX7_fitting_33 : decode cX7_fitting 33 = .ok (.iconst 1, 1) := dk_4 (dk_at dksX7_fitting_1 9 rfl rfl)
theorem dX7_fitting_34 : decode cX7_fitting 34 = .ok (.iload_n 3, 1) := dk_29 (dk_at dksX7_fitting_1 10 rfl rfl)
theorem dX7_fitting_35 : decode cX7_fitting 35 = .ok (.ishl, 1) := dk_120 (dk_at dksX7_fitting_1 11 rfl rfl)
theorem dX7_fitting_36 : decode cX7_fitting 36 = .ok (.ior, 1) := dk_128 (dk_at dksX7_fitting_1 12 rfl rfl)
theorem dX7_fitting_37 : decode cX7_fitting 37 = .ok (.istore_n 2, 1) := dk_61 (dk_at dksX7_fitting_1 13 rfl rfl)
theorem dX7_fitting_38 : decode cX7_fitting 38 = .ok (.iinc 3 1, 3) := dk_132 3 1 (dk_at dksX7_fitting_1 14 rfl rfl)
theorem dX7_fitting_41 : decode cX7_fitting 41 = .ok (.goto (-37), 3) := dk_167 255 219 (dk_at dksX7_fitting_1 17 rfl rfl)
theorem dX7_fitting_44 : decode cX7_fitting 44 = .ok (.iload_n 2, 1) := dk_28 (dk_at dksX7_fitting_1 20 rfl rfl)
theorem dX7_fitting_45 : decode cX7_fitting 45 = .ok (.ireturn, 1) := dk_172 (dk_at dksX7_fitting_1 21 rfl rfl)
abbrev cX7_piece : ByteArray := prog_21_method_70_code
def yX7_piece : MethodName := ⟨RX7, "piece", "(II)I"⟩
def dkwX7_piece_3 : List UInt8 := [29, 96, 46, 27, 184, 0, 101, 153, 0, 5, 29, 172, 132, 3, 1, 167, 255, 221, 16, 254, 172]
abbrev dktX7_piece_3 : List UInt8 := dkwX7_piece_3 ++ []
def dkwX7_piece_2 : List UInt8 := [46, 172, 3, 62, 29, 16, 12, 162, 0, 35, 42, 29, 182, 0, 108, 153, 0, 21, 42, 180, 0, 7, 16, 48]
abbrev dktX7_piece_2 : List UInt8 := dkwX7_piece_2 ++ dktX7_piece_3
def dkwX7_piece_1 : List UInt8 := [162, 0, 10, 42, 27, 28, 182, 0, 236, 172, 28, 16, 8, 160, 0, 13, 42, 180, 0, 7, 16, 72, 27, 96]
abbrev dktX7_piece_1 : List UInt8 := dkwX7_piece_1 ++ dktX7_piece_2
def dkwX7_piece_0 : List UInt8 := [27, 184, 0, 97, 153, 0, 13, 28, 3, 16, 9, 184, 0, 111, 154, 0, 6, 16, 156, 172, 28, 16, 8]
abbrev dktX7_piece_0 : List UInt8 := dkwX7_piece_0 ++ dktX7_piece_1
theorem dksX7_piece_0 : cX7_piece.data.toList.drop 0 = dktX7_piece_0 := by decide +kernel
theorem dksX7_piece_1 : cX7_piece.data.toList.drop 23 = dktX7_piece_1 := dk_seg dksX7_piece_0 23 rfl rfl
theorem dksX7_piece_2 : cX7_piece.data.toList.drop 47 = dktX7_piece_2 := dk_seg dksX7_piece_1 24 rfl rfl
theorem dksX7_piece_3 : cX7_piece.data.toList.drop 71 = dktX7_piece_3 := dk_seg dksX7_piece_2 24 rfl rfl
theorem dX7_piece_0 : decode cX7_piece 0 = .ok (.iload_n 1, 1) := dk_27 (dk_at dksX7_piece_0 0 rfl rfl)
theorem dX7_piece_1 : decode cX7_piece 1 = .ok (.invokestatic 97, 3) := dk_184 0 97 (dk_at dksX7_piece_0 1 rfl rfl)
theorem dX7_piece_4 : decode cX7_piece 4 = .ok (.ifCond .eq 13, 3) := dk_153 0 13 (dk_at dksX7_piece_0 4 rfl rfl)
theorem dX7_piece_7 : decode cX7_piece 7 = .ok (.iload_n 2, 1) := dk_28 (dk_at dksX7_piece_0 7 rfl rfl)
theorem dX7_piece_8 : decode cX7_piece 8 = .ok (.iconst 0, 1) := dk_3 (dk_at dksX7_piece_0 8 rfl rfl)
theorem dX7_piece_9 : decode cX7_piece 9 = .ok (.bipush 9, 2) := dk_16 9 (dk_at dksX7_piece_0 9 rfl rfl)
theorem dX7_piece_11 : decode cX7_piece 11 = .ok (.invokestatic 111, 3) := dk_184 0 111 (dk_at dksX7_piece_0 11 rfl rfl)
theorem dX7_piece_14 : decode cX7_piece 14 = .ok (.ifCond .ne 6, 3) := dk_154 0 6 (dk_at dksX7_piece_0 14 rfl rfl)
theorem dX7_piece_17 : decode cX7_piece 17 = .ok (.bipush (-100), 2) := dk_16 156 (dk_at dksX7_piece_0 17 rfl rfl)
theorem dX7_piece_19 : decode cX7_piece 19 = .ok (.ireturn, 1) := dk_172 (dk_at dksX7_piece_0 19 rfl rfl)
theorem dX7_piece_20 : decode cX7_piece 20 = .ok (.iload_n 2, 1) := dk_28 (dk_at dksX7_piece_0 20 rfl rfl)
theorem dX7_piece_21 : decode cX7_piece 21 = .ok (.bipush 8, 2) := dk_16 8 (dk_at dksX7_piece_0 21 rfl rfl)
theorem dX7_piece_23 : decode cX7_piece 23 = .ok (.if_icmp .ge 10, 3) := dk_162 0 10 (dk_at dksX7_piece_1 0 rfl rfl)
theorem dX7_piece_26 : decode cX7_piece 26 = .ok (.aload_n 0, 1) := dk_42 (dk_at dksX7_piece_1 3 rfl rfl)
theorem dX7_piece_27 : decode cX7_piece 27 = .ok (.iload_n 1, 1) := dk_27 (dk_at dksX7_piece_1 4 rfl rfl)
theorem dX7_piece_28 : decode cX7_piece 28 = .ok (.iload_n 2, 1) := dk_28 (dk_at dksX7_piece_1 5 rfl rfl)
theorem dX7_piece_29 : decode cX7_piece 29 = .ok (.invokevirtual 236, 3) := dk_182 0 236 (dk_at dksX7_piece_1 6 rfl rfl)
theorem dX7_piece_32 : decode cX7_piece 32 = .ok (.ireturn, 1) := dk_172 (dk_at dksX7_piece_1 9 rfl rfl)
theorem dX7_piece_33 : decode cX7_piece 33 = .ok (.iload_n 2, 1) := dk_28 (dk_at dksX7_piece_1 10 rfl rfl)
theorem dX7_piece_34 : decode cX7_piece 34 = .ok (.bipush 8, 2) := dk_16 8 (dk_at dksX7_piece_1 11 rfl rfl)
theorem dX7_piece_36 : decode cX7_piece 36 = .ok (.if_icmp .ne 13, 3) := dk_160 0 13 (dk_at dksX7_piece_1 13 rfl rfl)
theorem dX7_piece_39 : decode cX7_piece 39 = .ok (.aload_n 0, 1) := dk_42 (dk_at dksX7_piece_1 16 rfl rfl)
theorem dX7_piece_40 : decode cX7_piece 40 = .ok (.getfield 7, 3) := dk_180 0 7 (dk_at dksX7_piece_1 17 rfl rfl)
theorem dX7_piece_43 : decode cX7_piece 43 = .ok (.bipush 72, 2) := dk_16 72 (dk_at dksX7_piece_1 20 rfl rfl)
theorem dX7_piece_45 : decode cX7_piece 45 = .ok (.iload_n 1, 1) := dk_27 (dk_at dksX7_piece_1 22 rfl rfl)
theorem dX7_piece_46 : decode cX7_piece 46 = .ok (.iadd, 1) := dk_96 (dk_at dksX7_piece_1 23 rfl rfl)
theorem dX7_piece_47 : decode cX7_piece 47 = .ok (.iaload, 1) := dk_46 (dk_at dksX7_piece_2 0 rfl rfl)
theorem dX7_piece_48 : decode cX7_piece 48 = .ok (.ireturn, 1) := dk_172 (dk_at dksX7_piece_2 1 rfl rfl)
theorem dX7_piece_49 : decode cX7_piece 49 = .ok (.iconst 0, 1) := dk_3 (dk_at dksX7_piece_2 2 rfl rfl)
theorem dX7_piece_50 : decode cX7_piece 50 = .ok (.istore_n 3, 1) := dk_62 (dk_at dksX7_piece_2 3 rfl rfl)
theorem dX7_piece_51 : decode cX7_piece 51 = .ok (.iload_n 3, 1) := dk_29 (dk_at dksX7_piece_2 4 rfl rfl)
theorem dX7_piece_52 : decode cX7_piece 52 = .ok (.bipush 12, 2) := dk_16 12 (dk_at dksX7_piece_2 5 rfl rfl)
theorem dX7_piece_54 : decode cX7_piece 54 = .ok (.if_icmp .ge 35, 3) := dk_162 0 35 (dk_at dksX7_piece_2 7 rfl rfl)
theorem dX7_piece_57 : decode cX7_piece 57 = .ok (.aload_n 0, 1) := dk_42 (dk_at dksX7_piece_2 10 rfl rfl)
theorem dX7_piece_58 : decode cX7_piece 58 = .ok (.iload_n 3, 1) := dk_29 (dk_at dksX7_piece_2 11 rfl rfl)
theorem dX7_piece_59 : decode cX7_piece 59 = .ok (.invokevirtual 108, 3) := dk_182 0 108 (dk_at dksX7_piece_2 12 rfl rfl)
theorem dX7_piece_62 : decode cX7_piece 62 = .ok (.ifCond .eq 21, 3) := dk_153 0 21 (dk_at dksX7_piece_2 15 rfl rfl)
theorem dX7_piece_65 : decode cX7_piece 65 = .ok (.aload_n 0, 1) := dk_42 (dk_at dksX7_piece_2 18 rfl rfl)
theorem dX7_piece_66 : decode cX7_piece 66 = .ok (.getfield 7, 3) := dk_180 0 7 (dk_at dksX7_piece_2 19 rfl rfl)
theorem dX7_piece_69 : decode cX7_piece 69 = .ok (.bipush 48, 2) := dk_16 48 (dk_at dksX7_piece_2 22 rfl rfl)
theorem dX7_piece_71 : decode cX7_piece 71 = .ok (.iload_n 3, 1) := dk_29 (dk_at dksX7_piece_3 0 rfl rfl)
theorem dX7_piece_72 : decode cX7_piece 72 = .ok (.iadd, 1) := dk_96 (dk_at dksX7_piece_3 1 rfl rfl)
theorem dX7_piece_73 : decode cX7_piece 73 = .ok (.iaload, 1) := dk_46 (dk_at dksX7_piece_3 2 rfl rfl)
theorem dX7_piece_74 : decode cX7_piece 74 = .ok (.iload_n 1, 1) := dk_27 (dk_at dksX7_piece_3 3 rfl rfl)
theorem dX7_piece_75 : decode cX7_piece 75 = .ok (.invokestatic 101, 3) := dk_184 0 101 (dk_at dksX7_piece_3 4 rfl rfl)
theorem dX7_piece_78 : decode cX7_piece 78 = .ok (.ifCond .eq 5, 3) := dk_153 0 5 (dk_at dksX7_piece_3 7 rfl rfl)
theorem dX7_piece_81 : decode cX7_piece 81 = .ok (.iload_n 3, 1) := dk_29 (dk_at dksX7_piece_3 10 rfl rfl)
theorem dX7_piece_82 : decode cX7_piece 82 = .ok (.ireturn, 1) := dk_172 (dk_at dksX7_piece_3 11 rfl rfl)
theorem dX7_piece_83 : decode cX7_piece 83 = .ok (.iinc 3 1, 3) := dk_132 3 1 (dk_at dksX7_piece_3 12 rfl rfl)
theorem dX7_piece_86 : decode cX7_piece 86 = .ok (.goto (-35), 3) := dk_167 255 221 (dk_at dksX7_piece_3 15 rfl rfl)
theorem dX7_piece_89 : decode cX7_piece 89 = .ok (.bipush (-2), 2) := dk_16 254 (dk_at dksX7_piece_3 18 rfl rfl)
theorem dX7_piece_91 : decode cX7_piece 91 = .ok (.ireturn, 1) := dk_172 (dk_at dksX7_piece_3 20 rfl rfl)
abbrev cX7_slack : ByteArray := prog_21_method_71_code
def yX7_slack : MethodName := ⟨RX7, "slack", "(III)I"⟩
def dkwX7_slack_3 : List UInt8 := [167, 0, 13, 3, 167, 0, 9, 42, 27, 28, 182, 1, 71, 172]
abbrev dktX7_slack_3 : List UInt8 := dkwX7_slack_3 ++ []
def dkwX7_slack_2 : List UInt8 := [29, 154, 0, 8, 21, 4, 167, 0, 31, 29, 4, 160, 0, 20, 42, 27, 28, 182, 1, 30, 153, 0, 7, 4]
abbrev dktX7_slack_2 : List UInt8 := dkwX7_slack_2 ++ dktX7_slack_3
def dkwX7_slack_1 : List UInt8 := [184, 0, 111, 154, 0, 5, 2, 172, 42, 27, 28, 182, 1, 6, 54, 4, 21, 4, 2, 160, 0, 5, 2, 172]
abbrev dktX7_slack_1 : List UInt8 := dkwX7_slack_1 ++ dktX7_slack_2
def dkwX7_slack_0 : List UInt8 := [42, 27, 182, 0, 105, 153, 0, 25, 42, 28, 182, 0, 105, 153, 0, 17, 27, 28, 159, 0, 12, 29, 3, 5]
abbrev dktX7_slack_0 : List UInt8 := dkwX7_slack_0 ++ dktX7_slack_1
theorem dksX7_slack_0 : cX7_slack.data.toList.drop 0 = dktX7_slack_0 := by decide +kernel
theorem dksX7_slack_1 : cX7_slack.data.toList.drop 24 = dktX7_slack_1 := dk_seg dksX7_slack_0 24 rfl rfl
theorem dksX7_slack_2 : cX7_slack.data.toList.drop 48 = dktX7_slack_2 := dk_seg dksX7_slack_1 24 rfl rfl
theorem dksX7_slack_3 : cX7_slack.data.toList.drop 72 = dktX7_slack_3 := dk_seg dksX7_slack_2 24 rfl rfl
theorem dX7_slack_0 : decode cX7_slack 0 = .ok (.aload_n 0, 1) := dk_42 (dk_at dksX7_slack_0 0 rfl rfl)
theorem dX7_slack_1 : decode cX7_slack 1 = .ok (.iload_n 1, 1) := dk_27 (dk_at dksX7_slack_0 1 rfl rfl)
theorem dX7_slack_2 : decode cX7_slack 2 = .ok (.invokevirtual 105, 3) := dk_182 0 105 (dk_at dksX7_slack_0 2 rfl rfl)
theorem dX7_slack_5 : decode cX7_slack 5 = .ok (.ifCond .eq 25, 3) := dk_153 0 25 (dk_at dksX7_slack_0 5 rfl rfl)
theorem dX7_slack_8 : decode cX7_slack 8 = .ok (.aload_n 0, 1) := dk_42 (dk_at dksX7_slack_0 8 rfl rfl)
theorem dX7_slack_9 : decode cX7_slack 9 = .ok (.iload_n 2, 1) := dk_28 (dk_at dksX7_slack_0 9 rfl rfl)
theorem dX7_slack_10 : decode cX7_slack 10 = .ok (.invokevirtual 105, 3) := dk_182 0 105 (dk_at dksX7_slack_0 10 rfl rfl)
theorem dX7_slack_13 : decode cX7_slack 13 = .ok (.ifCond .eq 17, 3) := dk_153 0 17 (dk_at dksX7_slack_0 13 rfl rfl)
theorem dX7_slack_16 : decode cX7_slack 16 = .ok (.iload_n 1, 1) := dk_27 (dk_at dksX7_slack_0 16 rfl rfl)
theorem dX7_slack_17 : decode cX7_slack 17 = .ok (.iload_n 2, 1) := dk_28 (dk_at dksX7_slack_0 17 rfl rfl)
theorem dX7_slack_18 : decode cX7_slack 18 = .ok (.if_icmp .eq 12, 3) := dk_159 0 12 (dk_at dksX7_slack_0 18 rfl rfl)
theorem dX7_slack_21 : decode cX7_slack 21 = .ok (.iload_n 3, 1) := dk_29 (dk_at dksX7_slack_0 21 rfl rfl)
theorem dX7_slack_22 : decode cX7_slack 22 = .ok (.iconst 0, 1) := dk_3 (dk_at dksX7_slack_0 22 rfl rfl)
theorem dX7_slack_23 : decode cX7_slack 23 = .ok (.iconst 2, 1) := dk_5 (dk_at dksX7_slack_0 23 rfl rfl)
theorem dX7_slack_24 : decode cX7_slack 24 = .ok (.invokestatic 111, 3) := dk_184 0 111 (dk_at dksX7_slack_1 0 rfl rfl)
theorem dX7_slack_27 : decode cX7_slack 27 = .ok (.ifCond .ne 5, 3) := dk_154 0 5 (dk_at dksX7_slack_1 3 rfl rfl)
theorem dX7_slack_30 : decode cX7_slack 30 = .ok (.iconst (-1), 1) := dk_2 (dk_at dksX7_slack_1 6 rfl rfl)
theorem dX7_slack_31 : decode cX7_slack 31 = .ok (.ireturn, 1) := dk_172 (dk_at dksX7_slack_1 7 rfl rfl)
theorem dX7_slack_32 : decode cX7_slack 32 = .ok (.aload_n 0, 1) := dk_42 (dk_at dksX7_slack_1 8 rfl rfl)
theorem dX7_slack_33 : decode cX7_slack 33 = .ok (.iload_n 1, 1) := dk_27 (dk_at dksX7_slack_1 9 rfl rfl)
theorem dX7_slack_34 : decode cX7_slack 34 = .ok (.iload_n 2, 1) := dk_28 (dk_at dksX7_slack_1 10 rfl rfl)
theorem dX7_slack_35 : decode cX7_slack 35 = .ok (.invokevirtual 262, 3) := dk_182 1 6 (dk_at dksX7_slack_1 11 rfl rfl)
theorem dX7_slack_38 : decode cX7_slack 38 = .ok (.istore 4, 2) := dk_54 4 (dk_at dksX7_slack_1 14 rfl rfl)
theorem dX7_slack_40 : decode cX7_slack 40 = .ok (.iload 4, 2) := dk_21 4 (dk_at dksX7_slack_1 16 rfl rfl)
theorem dX7_slack_42 : decode cX7_slack 42 = .ok (.iconst (-1), 1) := dk_2 (dk_at dksX7_slack_1 18 rfl rfl)
theorem dX7_slack_43 : decode cX7_slack 43 = .ok (.if_icmp .ne 5, 3) := dk_160 0 5 (dk_at dksX7_slack_1 19 rfl rfl)
theorem dX7_slack_46 : decode cX7_slack 46 = .ok (.iconst (-1), 1) := dk_2 (dk_at dksX7_slack_1 22 rfl rfl)
theorem dX7_slack_47 : decode cX7_slack 47 = .ok (.ireturn, 1) := dk_172 (dk_at dksX7_slack_1 23 rfl rfl)
theorem dX7_slack_48 : decode cX7_slack 48 = .ok (.iload_n 3, 1) := dk_29 (dk_at dksX7_slack_2 0 rfl rfl)
theorem dX7_slack_49 : decode cX7_slack 49 = .ok (.ifCond .ne 8, 3) := dk_154 0 8 (dk_at dksX7_slack_2 1 rfl rfl)
theorem dX7_slack_52 : decode cX7_slack 52 = .ok (.iload 4, 2) := dk_21 4 (dk_at dksX7_slack_2 4 rfl rfl)
theorem dX7_slack_54 : decode cX7_slack 54 = .ok (.goto 31, 3) := dk_167 0 31 (dk_at dksX7_slack_2 6 rfl rfl)
theorem dX7_slack_57 : decode cX7_slack 57 = .ok (.iload_n 3, 1) := dk_29 (dk_at dksX7_slack_2 9 rfl rfl)
theorem dX7_slack_58 : decode cX7_slack 58 = .ok (.iconst 1, 1) := dk_4 (dk_at dksX7_slack_2 10 rfl rfl)
theorem dX7_slack_59 : decode cX7_slack 59 = .ok (.if_icmp .ne 20, 3) := dk_160 0 20 (dk_at dksX7_slack_2 11 rfl rfl)
theorem dX7_slack_62 : decode cX7_slack 62 = .ok (.aload_n 0, 1) := dk_42 (dk_at dksX7_slack_2 14 rfl rfl)
theorem dX7_slack_63 : decode cX7_slack 63 = .ok (.iload_n 1, 1) := dk_27 (dk_at dksX7_slack_2 15 rfl rfl)
theorem dX7_slack_64 : decode cX7_slack 64 = .ok (.iload_n 2, 1) := dk_28 (dk_at dksX7_slack_2 16 rfl rfl)
theorem dX7_slack_65 : decode cX7_slack 65 = .ok (.invokevirtual 286, 3) := dk_182 1 30 (dk_at dksX7_slack_2 17 rfl rfl)
theorem dX7_slack_68 : decode cX7_slack 68 = .ok (.ifCond .eq 7, 3) := dk_153 0 7 (dk_at dksX7_slack_2 20 rfl rfl)
theorem dX7_slack_71 : decode cX7_slack 71 = .ok (.iconst 1, 1) := dk_4 (dk_at dksX7_slack_2 23 rfl rfl)
theorem dX7_slack_72 : decode cX7_slack 72 = .ok (.goto 13, 3) := dk_167 0 13 (dk_at dksX7_slack_3 0 rfl rfl)
theorem dX7_slack_75 : decode cX7_slack 75 = .ok (.iconst 0, 1) := dk_3 (dk_at dksX7_slack_3 3 rfl rfl)
theorem dX7_slack_76 : decode cX7_slack 76 = .ok (.goto 9, 3) := dk_167 0 9 (dk_at dksX7_slack_3 4 rfl rfl)
theorem dX7_slack_79 : decode cX7_slack 79 = .ok (.aload_n 0, 1) := dk_42 (dk_at dksX7_slack_3 7 rfl rfl)
theorem dX7_slack_80 : decode cX7_slack 80 = .ok (.iload_n 1, 1) := dk_27 (dk_at dksX7_slack_3 8 rfl rfl)
theorem dX7_slack_81 : decode cX7_slack 81 = .ok (.iload_n 2, 1) := dk_28 (dk_at dksX7_slack_3 9 rfl rfl)
theorem dX7_slack_82 : decode cX7_slack 82 = .ok (.invokevirtual 327, 3) := dk_182 1 71 (dk_at dksX7_slack_3 10 rfl rfl)
theorem dX7_slack_85 : decode cX7_slack 85 = .ok (.ireturn, 1) := dk_172 (dk_at dksX7_slack_3 13 rfl rfl)
abbrev cX7_likes : ByteArray := prog_21_method_52_code
def yX7_likes : MethodName := ⟨RX7, "likes", "(II)I"⟩
def dkwX7_likes_0 : List UInt8 := [42, 27, 28, 42, 27, 28, 182, 1, 6, 182, 0, 255, 42, 16, 108, 16, 99, 182, 1, 3, 172]
abbrev dktX7_likes_0 : List UInt8 := dkwX7_likes_0 ++ []
theorem dksX7_likes_0 : cX7_likes.data.toList.drop 0 = dktX7_likes_0 := by decide +kernel
theorem dX7_likes_0 : decode cX7_likes 0 = .ok (.aload_n 0, 1) := dk_42 (dk_at dksX7_likes_0 0 rfl rfl)
theorem dX7_likes_1 : decode cX7_likes 1 = .ok (.iload_n 1, 1) := dk_27 (dk_at dksX7_likes_0 1 rfl rfl)
theorem dX7_likes_2 : decode cX7_likes 2 = .ok (.iload_n 2, 1) := dk_28 (dk_at dksX7_likes_0 2 rfl rfl)
theorem dX7_likes_3 : decode cX7_likes 3 = .ok (.aload_n 0, 1) := dk_42 (dk_at dksX7_likes_0 3 rfl rfl)
theorem dX7_likes_4 : decode cX7_likes 4 = .ok (.iload_n 1, 1) := dk_27 (dk_at dksX7_likes_0 4 rfl rfl)
theorem dX7_likes_5 : decode cX7_likes 5 = .ok (.iload_n 2, 1) := dk_28 (dk_at dksX7_likes_0 5 rfl rfl)
theorem dX7_likes_6 : decode cX7_likes 6 = .ok (.invokevirtual 262, 3) := dk_182 1 6 (dk_at dksX7_likes_0 6 rfl rfl)
theorem dX7_likes_9 : decode cX7_likes 9 = .ok (.invokevirtual 255, 3) := dk_182 0 255 (dk_at dksX7_likes_0 9 rfl rfl)
theorem dX7_likes_12 : decode cX7_likes 12 = .ok (.aload_n 0, 1) := dk_42 (dk_at dksX7_likes_0 12 rfl rfl)
theorem dX7_likes_13 : decode cX7_likes 13 = .ok (.bipush 108, 2) := dk_16 108 (dk_at dksX7_likes_0 13 rfl rfl)
theorem dX7_likes_15 : decode cX7_likes 15 = .ok (.bipush 99, 2) := dk_16 99 (dk_at dksX7_likes_0 15 rfl rfl)
theorem dX7_likes_17 : decode cX7_likes 17 = .ok (.invokevirtual 259, 3) := dk_182 1 3 (dk_at dksX7_likes_0 17 rfl rfl)
theorem dX7_likes_20 : decode cX7_likes 20 = .ok (.ireturn, 1) := dk_172 (dk_at dksX7_likes_0 20 rfl rfl)
abbrev cX7_locks : ByteArray := prog_21_method_73_code
def yX7_locks : MethodName := ⟨RX7, "locks", "(I)I"⟩
def dkwX7_locks_8 : List UInt8 := [108, 16, 12, 112, 167, 0, 7, 29, 16, 12, 112, 172]
abbrev dktX7_locks_8 : List UInt8 := dkwX7_locks_8 ++ []
def dkwX7_locks_7 : List UInt8 := [167, 0, 35, 27, 4, 160, 0, 11, 29, 17, 0, 144, 108, 167, 0, 22, 27, 5, 160, 0, 13, 29, 16, 12]
abbrev dktX7_locks_7 : List UInt8 := dkwX7_locks_7 ++ dktX7_locks_8
def dkwX7_locks_6 : List UInt8 := [167, 255, 151, 132, 4, 1, 167, 255, 132, 27, 154, 0, 7, 28, 167, 0, 45, 29, 2, 160, 0, 8, 16, 254]
abbrev dktX7_locks_6 : List UInt8 := dkwX7_locks_6 ++ dktX7_locks_7
def dkwX7_locks_5 : List UInt8 := [96, 21, 6, 96, 167, 0, 4, 29, 62, 28, 4, 96, 61, 132, 6, 1, 167, 255, 170, 132, 5, 1]
abbrev dktX7_locks_5 : List UInt8 := dkwX7_locks_5 ++ dktX7_locks_6
def dkwX7_locks_4 : List UInt8 := [184, 0, 101, 154, 0, 6, 167, 0, 31, 28, 154, 0, 21, 17, 0, 144, 21, 4, 104, 16, 12, 21, 5, 104]
abbrev dktX7_locks_4 : List UInt8 := dkwX7_locks_4 ++ dktX7_locks_5
def dkwX7_locks_3 : List UInt8 := [180, 0, 68, 21, 4, 46, 21, 6, 184, 0, 101, 153, 0, 49, 42, 180, 0, 68, 21, 5, 46, 21, 6]
abbrev dktX7_locks_3 : List UInt8 := dkwX7_locks_3 ++ dktX7_locks_4
def dkwX7_locks_2 : List UInt8 := [21, 6, 16, 12, 162, 0, 85, 42, 180, 0, 68, 21, 4, 46, 21, 5, 184, 0, 101, 153, 0, 64, 42]
abbrev dktX7_locks_2 : List UInt8 := dkwX7_locks_2 ++ dktX7_locks_3
def dkwX7_locks_1 : List UInt8 := [16, 12, 162, 0, 123, 21, 4, 4, 96, 54, 5, 21, 5, 16, 12, 162, 0, 104, 21, 5, 4, 96, 54, 6]
abbrev dktX7_locks_1 : List UInt8 := dkwX7_locks_1 ++ dktX7_locks_2
def dkwX7_locks_0 : List UInt8 := [27, 3, 6, 184, 0, 111, 154, 0, 5, 2, 172, 42, 182, 1, 74, 3, 61, 2, 62, 3, 54, 4, 21, 4]
abbrev dktX7_locks_0 : List UInt8 := dkwX7_locks_0 ++ dktX7_locks_1
theorem dksX7_locks_0 : cX7_locks.data.toList.drop 0 = dktX7_locks_0 := by decide +kernel
theorem dksX7_locks_1 : cX7_locks.data.toList.drop 24 = dktX7_locks_1 := dk_seg dksX7_locks_0 24 rfl rfl
theorem dksX7_locks_2 : cX7_locks.data.toList.drop 48 = dktX7_locks_2 := dk_seg dksX7_locks_1 24 rfl rfl
theorem dksX7_locks_3 : cX7_locks.data.toList.drop 71 = dktX7_locks_3 := dk_seg dksX7_locks_2 23 rfl rfl
theorem dksX7_locks_4 : cX7_locks.data.toList.drop 94 = dktX7_locks_4 := dk_seg dksX7_locks_3 23 rfl rfl
theorem dksX7_locks_5 : cX7_locks.data.toList.drop 118 = dktX7_locks_5 := dk_seg dksX7_locks_4 24 rfl rfl
theorem dksX7_locks_6 : cX7_locks.data.toList.drop 140 = dktX7_locks_6 := dk_seg dksX7_locks_5 22 rfl rfl
theorem dksX7_locks_7 : cX7_locks.data.toList.drop 164 = dktX7_locks_7 := dk_seg dksX7_locks_6 24 rfl rfl
theorem dksX7_locks_8 : cX7_locks.data.toList.drop 188 = dktX7_locks_8 := dk_seg dksX7_locks_7 24 rfl rfl
theorem dX7_locks_0 : decode cX7_locks 0 = .ok (.iload_n 1, 1) := dk_27 (dk_at dksX7_locks_0 0 rfl rfl)
theorem dX7_locks_1 : decode cX7_locks 1 = .ok (.iconst 0, 1) := dk_3 (dk_at dksX7_locks_0 1 rfl rfl)
theorem dX7_locks_2 : decode cX7_locks 2 = .ok (.iconst 3, 1) := dk_6 (dk_at dksX7_locks_0 2 rfl rfl)
theorem dX7_locks_3 : decode cX7_locks 3 = .ok (.invokestatic 111, 3) := dk_184 0 111 (dk_at dksX7_locks_0 3 rfl rfl)
theorem dX7_locks_6 : decode cX7_locks 6 = .ok (.ifCond .ne 5, 3) := dk_154 0 5 (dk_at dksX7_locks_0 6 rfl rfl)
theorem dX7_locks_9 : decode cX7_locks 9 = .ok (.iconst (-1), 1) := dk_2 (dk_at dksX7_locks_0 9 rfl rfl)
theorem dX7_locks_10 : decode cX7_locks 10 = .ok (.ireturn, 1) := dk_172 (dk_at dksX7_locks_0 10 rfl rfl)
theorem dX7_locks_11 : decode cX7_locks 11 = .ok (.aload_n 0, 1) := dk_42 (dk_at dksX7_locks_0 11 rfl rfl)
theorem dX7_locks_12 : decode cX7_locks 12 = .ok (.invokevirtual 330, 3) := dk_182 1 74 (dk_at dksX7_locks_0 12 rfl rfl)
theorem dX7_locks_15 : decode cX7_locks 15 = .ok (.iconst 0, 1) := dk_3 (dk_at dksX7_locks_0 15 rfl rfl)
theorem dX7_locks_16 : decode cX7_locks 16 = .ok (.istore_n 2, 1) := dk_61 (dk_at dksX7_locks_0 16 rfl rfl)
theorem dX7_locks_17 : decode cX7_locks 17 = .ok (.iconst (-1), 1) := dk_2 (dk_at dksX7_locks_0 17 rfl rfl)
theorem dX7_locks_18 : decode cX7_locks 18 = .ok (.istore_n 3, 1) := dk_62 (dk_at dksX7_locks_0 18 rfl rfl)
theorem dX7_locks_19 : decode cX7_locks 19 = .ok (.iconst 0, 1) := dk_3 (dk_at dksX7_locks_0 19 rfl rfl)
theorem dX7_locks_20 : decode cX7_locks 20 = .ok (.istore 4, 2) := dk_54 4 (dk_at dksX7_locks_0 20 rfl rfl)
theorem dX7_locks_22 : decode cX7_locks 22 = .ok (.iload 4, 2) := dk_21 4 (dk_at dksX7_locks_0 22 rfl rfl)
theorem dX7_locks_24 : decode cX7_locks 24 = .ok (.bipush 12, 2) := dk_16 12 (dk_at dksX7_locks_1 0 rfl rfl)
theorem dX7_locks_26 : decode cX7_locks 26 = .ok (.if_icmp .ge 123, 3) := dk_162 0 123 (dk_at dksX7_locks_1 2 rfl rfl)
theorem dX7_locks_29 : decode cX7_locks 29 = .ok (.iload 4, 2) := dk_21 4 (dk_at dksX7_locks_1 5 rfl rfl)
theorem dX7_locks_31 : decode cX7_locks 31 = .ok (.iconst 1, 1) := dk_4 (dk_at dksX7_locks_1 7 rfl rfl)
theorem dX7_locks_32 : decode cX7_locks 32 = .ok (.iadd, 1) := dk_96 (dk_at dksX7_locks_1 8 rfl rfl)
theorem dX7_locks_33 : decode cX7_locks 33 = .ok (.istore 5, 2) := dk_54 5 (dk_at dksX7_locks_1 9 rfl rfl)
theorem dX7_locks_35 : decode cX7_locks 35 = .ok (.iload 5, 2) := dk_21 5 (dk_at dksX7_locks_1 11 rfl rfl)
theorem dX7_locks_37 : decode cX7_locks 37 = .ok (.bipush 12, 2) := dk_16 12 (dk_at dksX7_locks_1 13 rfl rfl)
theorem dX7_locks_39 : decode cX7_locks 39 = .ok (.if_icmp .ge 104, 3) := dk_162 0 104 (dk_at dksX7_locks_1 15 rfl rfl)
theorem dX7_locks_42 : decode cX7_locks 42 = .ok (.iload 5, 2) := dk_21 5 (dk_at dksX7_locks_1 18 rfl rfl)
theorem dX7_locks_44 : decode cX7_locks 44 = .ok (.iconst 1, 1) := dk_4 (dk_at dksX7_locks_1 20 rfl rfl)
theorem dX7_locks_45 : decode cX7_locks 45 = .ok (.iadd, 1) := dk_96 (dk_at dksX7_locks_1 21 rfl rfl)
theorem dX7_locks_46 : decode cX7_locks 46 = .ok (.istore 6, 2) := dk_54 6 (dk_at dksX7_locks_1 22 rfl rfl)
theorem dX7_locks_48 : decode cX7_locks 48 = .ok (.iload 6, 2) := dk_21 6 (dk_at dksX7_locks_2 0 rfl rfl)
theorem dX7_locks_50 : decode cX7_locks 50 = .ok (.bipush 12, 2) := dk_16 12 (dk_at dksX7_locks_2 2 rfl rfl)
theorem dX7_locks_52 : decode cX7_locks 52 = .ok (.if_icmp .ge 85, 3) := dk_162 0 85 (dk_at dksX7_locks_2 4 rfl rfl)
theorem dX7_locks_55 : decode cX7_locks 55 = .ok (.aload_n 0, 1) := dk_42 (dk_at dksX7_locks_2 7 rfl rfl)
theorem dX7_locks_56 : decode cX7_locks 56 = .ok (.getfield 68, 3) := dk_180 0 68 (dk_at dksX7_locks_2 8 rfl rfl)
theorem dX7_locks_59 : decode cX7_locks 59 = .ok (.iload 4, 2) := dk_21 4 (dk_at dksX7_locks_2 11 rfl rfl)
theorem dX7_locks_61 : decode cX7_locks 61 = .ok (.iaload, 1) := dk_46 (dk_at dksX7_locks_2 13 rfl rfl)
theorem dX7_locks_62 : decode cX7_locks 62 = .ok (.iload 5, 2) := dk_21 5 (dk_at dksX7_locks_2 14 rfl rfl)
theorem dX7_locks_64 : decode cX7_locks 64 = .ok (.invokestatic 101, 3) := dk_184 0 101 (dk_at dksX7_locks_2 16 rfl rfl)
theorem dX7_locks_67 : decode cX7_locks 67 = .ok (.ifCond .eq 64, 3) := dk_153 0 64 (dk_at dksX7_locks_2 19 rfl rfl)
theorem dX7_locks_70 : decode cX7_locks 70 = .ok (.aload_n 0, 1) := dk_42 (dk_at dksX7_locks_2 22 rfl rfl)
theorem dX7_locks_71 : decode cX7_locks 71 = .ok (.getfield 68, 3) := dk_180 0 68 (dk_at dksX7_locks_3 0 rfl rfl)
theorem dX7_locks_74 : decode cX7_locks 74 = .ok (.iload 4, 2) := dk_21 4 (dk_at dksX7_locks_3 3 rfl rfl)
theorem dX7_locks_76 : decode cX7_locks 76 = .ok (.iaload, 1) := dk_46 (dk_at dksX7_locks_3 5 rfl rfl)
theorem dX7_locks_77 : decode cX7_locks 77 = .ok (.iload 6, 2) := dk_21 6 (dk_at dksX7_locks_3 6 rfl rfl)
theorem dX7_locks_79 : decode cX7_locks 79 = .ok (.invokestatic 101, 3) := dk_184 0 101 (dk_at dksX7_locks_3 8 rfl rfl)
theorem dX7_locks_82 : decode cX7_locks 82 = .ok (.ifCond .eq 49, 3) := dk_153 0 49 (dk_at dksX7_locks_3 11 rfl rfl)
theorem dX7_locks_85 : decode cX7_locks 85 = .ok (.aload_n 0, 1) := dk_42 (dk_at dksX7_locks_3 14 rfl rfl)
theorem dX7_locks_86 : decode cX7_locks 86 = .ok (.getfield 68, 3) := dk_180 0 68 (dk_at dksX7_locks_3 15 rfl rfl)
theorem dX7_locks_89 : decode cX7_locks 89 = .ok (.iload 5, 2) := dk_21 5 (dk_at dksX7_locks_3 18 rfl rfl)
theorem dX7_locks_91 : decode cX7_locks 91 = .ok (.iaload, 1) := dk_46 (dk_at dksX7_locks_3 20 rfl rfl)
theorem dX7_locks_92 : decode cX7_locks 92 = .ok (.iload 6, 2) := dk_21 6 (dk_at dksX7_locks_3 21 rfl rfl)
theorem dX7_locks_94 : decode cX7_locks 94 = .ok (.invokestatic 101, 3) := dk_184 0 101 (dk_at dksX7_locks_4 0 rfl rfl)
theorem dX7_locks_97 : decode cX7_locks 97 = .ok (.ifCond .ne 6, 3) := dk_154 0 6 (dk_at dksX7_locks_4 3 rfl rfl)
theorem dX7_locks_100 : decode cX7_locks 100 = .ok (.goto 31, 3) := dk_167 0 31 (dk_at dksX7_locks_4 6 rfl rfl)
theorem dX7_locks_103 : decode cX7_locks 103 = .ok (.iload_n 2, 1) := dk_28 (dk_at dksX7_locks_4 9 rfl rfl)
theorem dX7_locks_104 : decode cX7_locks 104 = .ok (.ifCond .ne 21, 3) := dk_154 0 21 (dk_at dksX7_locks_4 10 rfl rfl)
theorem dX7_locks_107 : decode cX7_locks 107 = .ok (.sipush 144, 3) := dk_17 0 144 (dk_at dksX7_locks_4 13 rfl rfl)
theorem dX7_locks_110 : decode cX7_locks 110 = .ok (.iload 4, 2) := dk_21 4 (dk_at dksX7_locks_4 16 rfl rfl)
theorem dX7_locks_112 : decode cX7_locks 112 = .ok (.imul, 1) := dk_104 (dk_at dksX7_locks_4 18 rfl rfl)
theorem dX7_locks_113 : decode cX7_locks 113 = .ok (.bipush 12, 2) := dk_16 12 (dk_at dksX7_locks_4 19 rfl rfl)
theorem dX7_locks_115 : decode cX7_locks 115 = .ok (.iload 5, 2) := dk_21 5 (dk_at dksX7_locks_4 21 rfl rfl)
theorem dX7_locks_117 : decode cX7_locks 117 = .ok (.imul, 1) := dk_104 (dk_at dksX7_locks_4 23 rfl rfl)
theorem dX7_locks_118 : decode cX7_locks 118 = .ok (.iadd, 1) := dk_96 (dk_at dksX7_locks_5 0 rfl rfl)
theorem dX7_locks_119 : decode cX7_locks 119 = .ok (.iload 6, 2) := dk_21 6 (dk_at dksX7_locks_5 1 rfl rfl)
theorem dX7_locks_121 : decode cX7_locks 121 = .ok (.iadd, 1) := dk_96 (dk_at dksX7_locks_5 3 rfl rfl)
theorem dX7_locks_122 : decode cX7_locks 122 = .ok (.goto 4, 3) := dk_167 0 4 (dk_at dksX7_locks_5 4 rfl rfl)
theorem dX7_locks_125 : decode cX7_locks 125 = .ok (.iload_n 3, 1) := dk_29 (dk_at dksX7_locks_5 7 rfl rfl)
theorem dX7_locks_126 : decode cX7_locks 126 = .ok (.istore_n 3, 1) := dk_62 (dk_at dksX7_locks_5 8 rfl rfl)
theorem dX7_locks_127 : decode cX7_locks 127 = .ok (.iload_n 2, 1) := dk_28 (dk_at dksX7_locks_5 9 rfl rfl)
theorem dX7_locks_128 : decode cX7_locks 128 = .ok (.iconst 1, 1) := dk_4 (dk_at dksX7_locks_5 10 rfl rfl)
theorem dX7_locks_129 : decode cX7_locks 129 = .ok (.iadd, 1) := dk_96 (dk_at dksX7_locks_5 11 rfl rfl)
theorem dX7_locks_130 : decode cX7_locks 130 = .ok (.istore_n 2, 1) := dk_61 (dk_at dksX7_locks_5 12 rfl rfl)
theorem dX7_locks_131 : decode cX7_locks 131 = .ok (.iinc 6 1, 3) := dk_132 6 1 (dk_at dksX7_locks_5 13 rfl rfl)
theorem dX7_locks_134 : decode cX7_locks 134 = .ok (.goto (-86), 3) := dk_167 255 170 (dk_at dksX7_locks_5 16 rfl rfl)
theorem dX7_locks_137 : decode cX7_locks 137 = .ok (.iinc 5 1, 3) := dk_132 5 1 (dk_at dksX7_locks_5 19 rfl rfl)
theorem dX7_locks_140 : decode cX7_locks 140 = .ok (.goto (-105), 3) := dk_167 255 151 (dk_at dksX7_locks_6 0 rfl rfl)
theorem dX7_locks_143 : decode cX7_locks 143 = .ok (.iinc 4 1, 3) := dk_132 4 1 (dk_at dksX7_locks_6 3 rfl rfl)
theorem dX7_locks_146 : decode cX7_locks 146 = .ok (.goto (-124), 3) := dk_167 255 132 (dk_at dksX7_locks_6 6 rfl rfl)
theorem dX7_locks_149 : decode cX7_locks 149 = .ok (.iload_n 1, 1) := dk_27 (dk_at dksX7_locks_6 9 rfl rfl)
theorem dX7_locks_150 : decode cX7_locks 150 = .ok (.ifCond .ne 7, 3) := dk_154 0 7 (dk_at dksX7_locks_6 10 rfl rfl)
theorem dX7_locks_153 : decode cX7_locks 153 = .ok (.iload_n 2, 1) := dk_28 (dk_at dksX7_locks_6 13 rfl rfl)
theorem dX7_locks_154 : decode cX7_locks 154 = .ok (.goto 45, 3) := dk_167 0 45 (dk_at dksX7_locks_6 14 rfl rfl)
theorem dX7_locks_157 : decode cX7_locks 157 = .ok (.iload_n 3, 1) := dk_29 (dk_at dksX7_locks_6 17 rfl rfl)
theorem dX7_locks_158 : decode cX7_locks 158 = .ok (.iconst (-1), 1) := dk_2 (dk_at dksX7_locks_6 18 rfl rfl)
theorem dX7_locks_159 : decode cX7_locks 159 = .ok (.if_icmp .ne 8, 3) := dk_160 0 8 (dk_at dksX7_locks_6 19 rfl rfl)
theorem dX7_locks_162 : decode cX7_locks 162 = .ok (.bipush (-2), 2) := dk_16 254 (dk_at dksX7_locks_6 22 rfl rfl)
theorem dX7_locks_164 : decode cX7_locks 164 = .ok (.goto 35, 3) := dk_167 0 35 (dk_at dksX7_locks_7 0 rfl rfl)
theorem dX7_locks_167 : decode cX7_locks 167 = .ok (.iload_n 1, 1) := dk_27 (dk_at dksX7_locks_7 3 rfl rfl)
theorem dX7_locks_168 : decode cX7_locks 168 = .ok (.iconst 1, 1) := dk_4 (dk_at dksX7_locks_7 4 rfl rfl)
theorem dX7_locks_169 : decode cX7_locks 169 = .ok (.if_icmp .ne 11, 3) := dk_160 0 11 (dk_at dksX7_locks_7 5 rfl rfl)
theorem dX7_locks_172 : decode cX7_locks 172 = .ok (.iload_n 3, 1) := dk_29 (dk_at dksX7_locks_7 8 rfl rfl)
theorem dX7_locks_173 : decode cX7_locks 173 = .ok (.sipush 144, 3) := dk_17 0 144 (dk_at dksX7_locks_7 9 rfl rfl)
theorem dX7_locks_176 : decode cX7_locks 176 = .ok (.idiv, 1) := dk_108 (dk_at dksX7_locks_7 12 rfl rfl)
theorem dX7_locks_177 : decode cX7_locks 177 = .ok (.goto 22, 3) := dk_167 0 22 (dk_at dksX7_locks_7 13 rfl rfl)
theorem dX7_locks_180 : decode cX7_locks 180 = .ok (.iload_n 1, 1) := dk_27 (dk_at dksX7_locks_7 16 rfl rfl)
theorem dX7_locks_181 : decode cX7_locks 181 = .ok (.iconst 2, 1) := dk_5 (dk_at dksX7_locks_7 17 rfl rfl)
theorem dX7_locks_182 : decode cX7_locks 182 = .ok (.if_icmp .ne 13, 3) := dk_160 0 13 (dk_at dksX7_locks_7 18 rfl rfl)
theorem dX7_locks_185 : decode cX7_locks 185 = .ok (.iload_n 3, 1) := dk_29 (dk_at dksX7_locks_7 21 rfl rfl)
theorem dX7_locks_186 : decode cX7_locks 186 = .ok (.bipush 12, 2) := dk_16 12 (dk_at dksX7_locks_7 22 rfl rfl)
theorem dX7_locks_188 : decode cX7_locks 188 = .ok (.idiv, 1) := dk_108 (dk_at dksX7_locks_8 0 rfl rfl)
theorem dX7_locks_189 : decode cX7_locks 189 = .ok (.bipush 12, 2) := dk_16 12 (dk_at dksX7_locks_8 1 rfl rfl)
theorem dX7_locks_191 : decode cX7_locks 191 = .ok (.irem, 1) := dk_112 (dk_at dksX7_locks_8 3 rfl rfl)
theorem dX7_locks_192 : decode cX7_locks 192 = .ok (.goto 7, 3) := dk_167 0 7 (dk_at dksX7_locks_8 4 rfl rfl)
theorem dX7_locks_195 : decode cX7_locks 195 = .ok (.iload_n 3, 1) := dk_29 (dk_at dksX7_locks_8 7 rfl rfl)
theorem dX7_locks_196 : decode cX7_locks 196 = .ok (.bipush 12, 2) := dk_16 12 (dk_at dksX7_locks_8 8 rfl rfl)
theorem dX7_locks_198 : decode cX7_locks 198 = .ok (.irem, 1) := dk_112 (dk_at dksX7_locks_8 10 rfl rfl)
theorem dX7_locks_199 : decode cX7_locks 199 = .ok (.ireturn, 1) := dk_172 (dk_at dksX7_locks_8 11 rfl rfl)
abbrev cX7_laysFits : ByteArray := prog_21_method_72_code
def yX7_laysFits : MethodName := ⟨RX7, "laysFits", "()V"⟩
def dkwX7_laysFits_5 : List UInt8 := [167, 255, 186, 132, 1, 1, 167, 255, 172, 177]
abbrev dktX7_laysFits_5 : List UInt8 := dkwX7_laysFits_5 ++ []
def dkwX7_laysFits_4 : List UInt8 := [27, 104, 28, 96, 29, 153, 0, 12, 42, 27, 28, 182, 1, 71, 167, 0, 4, 3, 79, 132, 2, 1]
abbrev dktX7_laysFits_4 : List UInt8 := dkwX7_laysFits_4 ++ dktX7_laysFits_5
def dkwX7_laysFits_3 : List UInt8 := [104, 28, 96, 29, 153, 0, 12, 42, 27, 28, 182, 1, 6, 167, 0, 4, 3, 79, 42, 180, 0, 74, 16, 12]
abbrev dktX7_laysFits_3 : List UInt8 := dkwX7_laysFits_3 ++ dktX7_laysFits_4
def dkwX7_laysFits_2 : List UInt8 := [28, 16, 12, 162, 0, 70, 42, 180, 0, 68, 27, 46, 28, 184, 0, 101, 62, 42, 180, 0, 71, 16, 12, 27]
abbrev dktX7_laysFits_2 : List UInt8 := dkwX7_laysFits_2 ++ dktX7_laysFits_3
def dkwX7_laysFits_1 : List UInt8 := [182, 1, 68, 167, 0, 4, 3, 79, 132, 1, 1, 167, 255, 224, 3, 60, 27, 16, 12, 162, 0, 84, 3, 61]
abbrev dktX7_laysFits_1 : List UInt8 := dkwX7_laysFits_1 ++ dktX7_laysFits_2
def dkwX7_laysFits_0 : List UInt8 := [3, 60, 27, 16, 12, 162, 0, 32, 42, 180, 0, 68, 27, 42, 27, 182, 0, 108, 153, 0, 11, 42, 27]
abbrev dktX7_laysFits_0 : List UInt8 := dkwX7_laysFits_0 ++ dktX7_laysFits_1
theorem dksX7_laysFits_0 : cX7_laysFits.data.toList.drop 0 = dktX7_laysFits_0 := by decide +kernel
theorem dksX7_laysFits_1 : cX7_laysFits.data.toList.drop 23 = dktX7_laysFits_1 := dk_seg dksX7_laysFits_0 23 rfl rfl
theorem dksX7_laysFits_2 : cX7_laysFits.data.toList.drop 47 = dktX7_laysFits_2 := dk_seg dksX7_laysFits_1 24 rfl rfl
theorem dksX7_laysFits_3 : cX7_laysFits.data.toList.drop 71 = dktX7_laysFits_3 := dk_seg dksX7_laysFits_2 24 rfl rfl
theorem dksX7_laysFits_4 : cX7_laysFits.data.toList.drop 95 = dktX7_laysFits_4 := dk_seg dksX7_laysFits_3 24 rfl rfl
theorem dksX7_laysFits_5 : cX7_laysFits.data.toList.drop 117 = dktX7_laysFits_5 := dk_seg dksX7_laysFits_4 22 rfl rfl
theorem dX7_laysFits_0 : decode cX7_laysFits 0 = .ok (.iconst 0, 1) := dk_3 (dk_at dksX7_laysFits_0 0 rfl rfl)
theorem dX7_laysFits_1 : decode cX7_laysFits 1 = .ok (.istore_n 1, 1) := dk_60 (dk_at dksX7_laysFits_0 1 rfl rfl)
theorem dX7_laysFits_2 : decode cX7_laysFits 2 = .ok (.iload_n 1, 1) := dk_27 (dk_at dksX7_laysFits_0 2 rfl rfl)
theorem dX7_laysFits_3 : decode cX7_laysFits 3 = .ok (.bipush 12, 2) := dk_16 12 (dk_at dksX7_laysFits_0 3 rfl rfl)
theorem dX7_laysFits_5 : decode cX7_laysFits 5 = .ok (.if_icmp .ge 32, 3) := dk_162 0 32 (dk_at dksX7_laysFits_0 5 rfl rfl)
theorem dX7_laysFits_8 : decode cX7_laysFits 8 = .ok (.aload_n 0, 1) := dk_42 (dk_at dksX7_laysFits_0 8 rfl rfl)
theorem dX7_laysFits_9 : decode cX7_laysFits 9 = .ok (.getfield 68, 3) := dk_180 0 68 (dk_at dksX7_laysFits_0 9 rfl rfl)
theorem dX7_laysFits_12 : decode cX7_laysFits 12 = .ok (.iload_n 1, 1) := dk_27 (dk_at dksX7_laysFits_0 12 rfl rfl)
theorem dX7_laysFits_13 : decode cX7_laysFits 13 = .ok (.aload_n 0, 1) := dk_42 (dk_at dksX7_laysFits_0 13 rfl rfl)
theorem dX7_laysFits_14 : decode cX7_laysFits 14 = .ok (.iload_n 1, 1) := dk_27 (dk_at dksX7_laysFits_0 14 rfl rfl)
theorem dX7_laysFits_15 : decode cX7_laysFits 15 = .ok (.invokevirtual 108, 3) := dk_182 0 108 (dk_at dksX7_laysFits_0 15 rfl rfl)
theorem dX7_laysFits_18 : decode cX7_laysFits 18 = .ok (.ifCond .eq 11, 3) := dk_153 0 11 (dk_at dksX7_laysFits_0 18 rfl rfl)
theorem dX7_laysFits_21 : decode cX7_laysFits 21 = .ok (.aload_n 0, 1) := dk_42 (dk_at dksX7_laysFits_0 21 rfl rfl)
theorem dX7_laysFits_22 : decode cX7_laysFits 22 = .ok (.iload_n 1, 1) := dk_27 (dk_at dksX7_laysFits_0 22 rfl rfl)
theorem dX7_laysFits_23 : decode cX7_laysFits 23 = .ok (.invokevirtual 324, 3) := dk_182 1 68 (dk_at dksX7_laysFits_1 0 rfl rfl)
theorem dX7_laysFits_26 : decode cX7_laysFits 26 = .ok (.goto 4, 3) := dk_167 0 4 (dk_at dksX7_laysFits_1 3 rfl rfl)
theorem dX7_laysFits_29 : decode cX7_laysFits 29 = .ok (.iconst 0, 1) := dk_3 (dk_at dksX7_laysFits_1 6 rfl rfl)
theorem dX7_laysFits_30 : decode cX7_laysFits 30 = .ok (.iastore, 1) := dk_79 (dk_at dksX7_laysFits_1 7 rfl rfl)
theorem dX7_laysFits_31 : decode cX7_laysFits 31 = .ok (.iinc 1 1, 3) := dk_132 1 1 (dk_at dksX7_laysFits_1 8 rfl rfl)
theorem dX7_laysFits_34 : decode cX7_laysFits 34 = .ok (.goto (-32), 3) := dk_167 255 224 (dk_at dksX7_laysFits_1 11 rfl rfl)
theorem dX7_laysFits_37 : decode cX7_laysFits 37 = .ok (.iconst 0, 1) := dk_3 (dk_at dksX7_laysFits_1 14 rfl rfl)
theorem dX7_laysFits_38 : decode cX7_laysFits 38 = .ok (.istore_n 1, 1) := dk_60 (dk_at dksX7_laysFits_1 15 rfl rfl)
theorem dX7_laysFits_39 : decode cX7_laysFits 39 = .ok (.iload_n 1, 1) := dk_27 (dk_at dksX7_laysFits_1 16 rfl rfl)
theorem dX7_laysFits_40 : decode cX7_laysFits 40 = .ok (.bipush 12, 2) := dk_16 12 (dk_at dksX7_laysFits_1 17 rfl rfl)
theorem dX7_laysFits_42 : decode cX7_laysFits 42 = .ok (.if_icmp .ge 84, 3) := dk_162 0 84 (dk_at dksX7_laysFits_1 19 rfl rfl)
theorem dX7_laysFits_45 : decode cX7_laysFits 45 = .ok (.iconst 0, 1) := dk_3 (dk_at dksX7_laysFits_1 22 rfl rfl)
theorem dX7_laysFits_46 : decode cX7_laysFits 46 = .ok (.istore_n 2, 1) := dk_61 (dk_at dksX7_laysFits_1 23 rfl rfl)
theorem dX7_laysFits_47 : decode cX7_laysFits 47 = .ok (.iload_n 2, 1) := dk_28 (dk_at dksX7_laysFits_2 0 rfl rfl)
theorem dX7_laysFits_48 : decode cX7_laysFits 48 = .ok (.bipush 12, 2) := dk_16 12 (dk_at dksX7_laysFits_2 1 rfl rfl)
theorem dX7_laysFits_50 : decode cX7_laysFits 50 = .ok (.if_icmp .ge 70, 3) := dk_162 0 70 (dk_at dksX7_laysFits_2 3 rfl rfl)
theorem dX7_laysFits_53 : decode cX7_laysFits 53 = .ok (.aload_n 0, 1) := dk_42 (dk_at dksX7_laysFits_2 6 rfl rfl)
theorem dX7_laysFits_54 : decode cX7_laysFits 54 = .ok (.getfield 68, 3) := dk_180 0 68 (dk_at dksX7_laysFits_2 7 rfl rfl)
theorem dX7_laysFits_57 : decode cX7_laysFits 57 = .ok (.iload_n 1, 1) := dk_27 (dk_at dksX7_laysFits_2 10 rfl rfl)
theorem dX7_laysFits_58 : decode cX7_laysFits 58 = .ok (.iaload, 1) := dk_46 (dk_at dksX7_laysFits_2 11 rfl rfl)
theorem dX7_laysFits_59 : decode cX7_laysFits 59 = .ok (.iload_n 2, 1) := dk_28 (dk_at dksX7_laysFits_2 12 rfl rfl)
theorem dX7_laysFits_60 : decode cX7_laysFits 60 = .ok (.invokestatic 101, 3) := dk_184 0 101 (dk_at dksX7_laysFits_2 13 rfl rfl)
theorem dX7_laysFits_63 : decode cX7_laysFits 63 = .ok (.istore_n 3, 1) := dk_62 (dk_at dksX7_laysFits_2 16 rfl rfl)
theorem dX7_laysFits_64 : decode cX7_laysFits 64 = .ok (.aload_n 0, 1) := dk_42 (dk_at dksX7_laysFits_2 17 rfl rfl)
theorem dX7_laysFits_65 : decode cX7_laysFits 65 = .ok (.getfield 71, 3) := dk_180 0 71 (dk_at dksX7_laysFits_2 18 rfl rfl)
theorem dX7_laysFits_68 : decode cX7_laysFits 68 = .ok (.bipush 12, 2) := dk_16 12 (dk_at dksX7_laysFits_2 21 rfl rfl)
theorem dX7_laysFits_70 : decode cX7_laysFits 70 = .ok (.iload_n 1, 1) := dk_27 (dk_at dksX7_laysFits_2 23 rfl rfl)
theorem dX7_laysFits_71 : decode cX7_laysFits 71 = .ok (.imul, 1) := dk_104 (dk_at dksX7_laysFits_3 0 rfl rfl)
theorem dX7_laysFits_72 : decode cX7_laysFits 72 = .ok (.iload_n 2, 1) := dk_28 (dk_at dksX7_laysFits_3 1 rfl rfl)
theorem dX7_laysFits_73 : decode cX7_laysFits 73 = .ok (.iadd, 1) := dk_96 (dk_at dksX7_laysFits_3 2 rfl rfl)
theorem dX7_laysFits_74 : decode cX7_laysFits 74 = .ok (.iload_n 3, 1) := dk_29 (dk_at dksX7_laysFits_3 3 rfl rfl)
theorem dX7_laysFits_75 : decode cX7_laysFits 75 = .ok (.ifCond .eq 12, 3) := dk_153 0 12 (dk_at dksX7_laysFits_3 4 rfl rfl)
theorem dX7_laysFits_78 : decode cX7_laysFits 78 = .ok (.aload_n 0, 1) := dk_42 (dk_at dksX7_laysFits_3 7 rfl rfl)
theorem dX7_laysFits_79 : decode cX7_laysFits 79 = .ok (.iload_n 1, 1) := dk_27 (dk_at dksX7_laysFits_3 8 rfl rfl)
theorem dX7_laysFits_80 : decode cX7_laysFits 80 = .ok (.iload_n 2, 1) := dk_28 (dk_at dksX7_laysFits_3 9 rfl rfl)
theorem dX7_laysFits_81 : decode cX7_laysFits 81 = .ok (.invokevirtual 262, 3) := dk_182 1 6 (dk_at dksX7_laysFits_3 10 rfl rfl)
theorem dX7_laysFits_84 : decode cX7_laysFits 84 = .ok (.goto 4, 3) := dk_167 0 4 (dk_at dksX7_laysFits_3 13 rfl rfl)
theorem dX7_laysFits_87 : decode cX7_laysFits 87 = .ok (.iconst 0, 1) := dk_3 (dk_at dksX7_laysFits_3 16 rfl rfl)
theorem dX7_laysFits_88 : decode cX7_laysFits 88 = .ok (.iastore, 1) := dk_79 (dk_at dksX7_laysFits_3 17 rfl rfl)
theorem dX7_laysFits_89 : decode cX7_laysFits 89 = .ok (.aload_n 0, 1) := dk_42 (dk_at dksX7_laysFits_3 18 rfl rfl)
theorem dX7_laysFits_90 : decode cX7_laysFits 90 = .ok (.getfield 74, 3) := dk_180 0 74 (dk_at dksX7_laysFits_3 19 rfl rfl)
theorem dX7_laysFits_93 : decode cX7_laysFits 93 = .ok (.bipush 12, 2) := dk_16 12 (dk_at dksX7_laysFits_3 22 rfl rfl)
theorem dX7_laysFits_95 : decode cX7_laysFits 95 = .ok (.iload_n 1, 1) := dk_27 (dk_at dksX7_laysFits_4 0 rfl rfl)
theorem dX7_laysFits_96 : decode cX7_laysFits 96 = .ok (.imul, 1) := dk_104 (dk_at dksX7_laysFits_4 1 rfl rfl)
theorem dX7_laysFits_97 : decode cX7_laysFits 97 = .ok (.iload_n 2, 1) := dk_28 (dk_at dksX7_laysFits_4 2 rfl rfl)
theorem dX7_laysFits_98 : decode cX7_laysFits 98 = .ok (.iadd, 1) := dk_96 (dk_at dksX7_laysFits_4 3 rfl rfl)
theorem dX7_laysFits_99 : decode cX7_laysFits 99 = .ok (.iload_n 3, 1) := dk_29 (dk_at dksX7_laysFits_4 4 rfl rfl)
theorem dX7_laysFits_100 : decode cX7_laysFits 100 = .ok (.ifCond .eq 12, 3) := dk_153 0 12 (dk_at dksX7_laysFits_4 5 rfl rfl)
theorem dX7_laysFits_103 : decode cX7_laysFits 103 = .ok (.aload_n 0, 1) := dk_42 (dk_at dksX7_laysFits_4 8 rfl rfl)
theorem dX7_laysFits_104 : decode cX7_laysFits 104 = .ok (.iload_n 1, 1) := dk_27 (dk_at dksX7_laysFits_4 9 rfl rfl)
theorem dX7_laysFits_105 : decode cX7_laysFits 105 = .ok (.iload_n 2, 1) := dk_28 (dk_at dksX7_laysFits_4 10 rfl rfl)
theorem dX7_laysFits_106 : decode cX7_laysFits 106 = .ok (.invokevirtual 327, 3) := dk_182 1 71 (dk_at dksX7_laysFits_4 11 rfl rfl)
theorem dX7_laysFits_109 : decode cX7_laysFits 109 = .ok (.goto 4, 3) := dk_167 0 4 (dk_at dksX7_laysFits_4 14 rfl rfl)
theorem dX7_laysFits_112 : decode cX7_laysFits 112 = .ok (.iconst 0, 1) := dk_3 (dk_at dksX7_laysFits_4 17 rfl rfl)
theorem dX7_laysFits_113 : decode cX7_laysFits 113 = .ok (.iastore, 1) := dk_79 (dk_at dksX7_laysFits_4 18 rfl rfl)
theorem dX7_laysFits_114 : decode cX7_laysFits 114 = .ok (.iinc 2 1, 3) := dk_132 2 1 (dk_at dksX7_laysFits_4 19 rfl rfl)
theorem dX7_laysFits_117 : decode cX7_laysFits 117 = .ok (.goto (-70), 3) := dk_167 255 186 (dk_at dksX7_laysFits_5 0 rfl rfl)
theorem dX7_laysFits_120 : decode cX7_laysFits 120 = .ok (.iinc 1 1, 3) := dk_132 1 1 (dk_at dksX7_laysFits_5 3 rfl rfl)
theorem dX7_laysFits_123 : decode cX7_laysFits 123 = .ok (.goto (-84), 3) := dk_167 255 172 (dk_at dksX7_laysFits_5 6 rfl rfl)
theorem dX7_laysFits_126 : decode cX7_laysFits 126 = .ok (.return_, 1) := dk_177 (dk_at dksX7_laysFits_5 9 rfl rfl)
abbrev cX7_most : ByteArray := prog_21_method_78_code
def yX7_most : MethodName := ⟨RX7, "most", "(I)I"⟩
def dkwX7_most_3 : List UInt8 := [3, 46, 100, 167, 0, 8, 42, 27, 182, 1, 87, 172]
abbrev dktX7_most_3 : List UInt8 := dkwX7_most_3 ++ []
def dkwX7_most_2 : List UInt8 := [16, 20, 160, 0, 7, 28, 167, 0, 29, 27, 16, 21, 160, 0, 18, 17, 39, 16, 28, 104, 42, 180, 0, 78]
abbrev dktX7_most_2 : List UInt8 := dkwX7_most_2 ++ dktX7_most_3
def dkwX7_most_1 : List UInt8 := [182, 1, 74, 42, 182, 1, 84, 42, 180, 0, 78, 3, 46, 17, 39, 15, 96, 17, 39, 16, 108, 61, 27]
abbrev dktX7_most_1 : List UInt8 := dkwX7_most_1 ++ dktX7_most_2
def dkwX7_most_0 : List UInt8 := [27, 16, 20, 16, 21, 184, 0, 111, 154, 0, 14, 42, 27, 3, 182, 1, 78, 154, 0, 5, 2, 172, 42]
abbrev dktX7_most_0 : List UInt8 := dkwX7_most_0 ++ dktX7_most_1
theorem dksX7_most_0 : cX7_most.data.toList.drop 0 = dktX7_most_0 := by decide +kernel
theorem dksX7_most_1 : cX7_most.data.toList.drop 23 = dktX7_most_1 := dk_seg dksX7_most_0 23 rfl rfl
theorem dksX7_most_2 : cX7_most.data.toList.drop 46 = dktX7_most_2 := dk_seg dksX7_most_1 23 rfl rfl
theorem dksX7_most_3 : cX7_most.data.toList.drop 70 = dktX7_most_3 := dk_seg dksX7_most_2 24 rfl rfl
theorem dX7_most_0 : decode cX7_most 0 = .ok (.iload_n 1, 1) := dk_27 (dk_at dksX7_most_0 0 rfl rfl)
theorem dX7_most_1 : decode cX7_most 1 = .ok (.bipush 20, 2) := dk_16 20 (dk_at dksX7_most_0 1 rfl rfl)
theorem dX7_most_3 : decode cX7_most 3 = .ok (.bipush 21, 2) := dk_16 21 (dk_at dksX7_most_0 3 rfl rfl)
theorem dX7_most_5 : decode cX7_most 5 = .ok (.invokestatic 111, 3) := dk_184 0 111 (dk_at dksX7_most_0 5 rfl rfl)
theorem dX7_most_8 : decode cX7_most 8 = .ok (.ifCond .ne 14, 3) := dk_154 0 14 (dk_at dksX7_most_0 8 rfl rfl)
theorem dX7_most_11 : decode cX7_most 11 = .ok (.aload_n 0, 1) := dk_42 (dk_at dksX7_most_0 11 rfl rfl)
theorem dX7_most_12 : decode cX7_most 12 = .ok (.iload_n 1, 1) := dk_27 (dk_at dksX7_most_0 12 rfl rfl)
theorem dX7_most_13 : decode cX7_most 13 = .ok (.iconst 0, 1) := dk_3 (dk_at dksX7_most_0 13 rfl rfl)
theorem dX7_most_14 : decode cX7_most 14 = .ok (.invokevirtual 334, 3) := dk_182 1 78 (dk_at dksX7_most_0 14 rfl rfl)
theorem dX7_most_17 : decode cX7_most 17 = .ok (.ifCond .ne 5, 3) := dk_154 0 5 (dk_at dksX7_most_0 17 rfl rfl)
theorem dX7_most_20 : decode cX7_most 20 = .ok (.iconst (-1), 1) := dk_2 (dk_at dksX7_most_0 20 rfl rfl)
theorem dX7_most_21 : decode cX7_most 21 = .ok (.ireturn, 1) := dk_172 (dk_at dksX7_most_0 21 rfl rfl)
theorem dX7_most_22 : decode cX7_most 22 = .ok (.aload_n 0, 1) := dk_42 (dk_at dksX7_most_0 22 rfl rfl)
theorem dX7_most_23 : decode cX7_most 23 = .ok (.invokevirtual 330, 3) := dk_182 1 74 (dk_at dksX7_most_1 0 rfl rfl)
theorem dX7_most_26 : decode cX7_most 26 = .ok (.aload_n 0, 1) := dk_42 (dk_at dksX7_most_1 3 rfl rfl)
theorem dX7_most_27 : decode cX7_most 27 = .ok (.invokevirtual 340, 3) := dk_182 1 84 (dk_at dksX7_most_1 4 rfl rfl)
theorem dX7_most_30 : decode cX7_most 30 = .ok (.aload_n 0, 1) := dk_42 (dk_at dksX7_most_1 7 rfl rfl)
theorem dX7_most_31 : decode cX7_most 31 = .ok (.getfield 78, 3) := dk_180 0 78 (dk_at dksX7_most_1 8 rfl rfl)
theorem dX7_most_34 : decode cX7_most 34 = .ok (.iconst 0, 1) := dk_3 (dk_at dksX7_most_1 11 rfl rfl)
theorem dX7_most_35 : decode cX7_most 35 = .ok (.iaload, 1) := dk_46 (dk_at dksX7_most_1 12 rfl rfl)
theorem dX7_most_36 : decode cX7_most 36 = .ok (.sipush 9999, 3) := dk_17 39 15 (dk_at dksX7_most_1 13 rfl rfl)
theorem dX7_most_39 : decode cX7_most 39 = .ok (.iadd, 1) := dk_96 (dk_at dksX7_most_1 16 rfl rfl)
theorem dX7_most_40 : decode cX7_most 40 = .ok (.sipush 10000, 3) := dk_17 39 16 (dk_at dksX7_most_1 17 rfl rfl)
theorem dX7_most_43 : decode cX7_most 43 = .ok (.idiv, 1) := dk_108 (dk_at dksX7_most_1 20 rfl rfl)
theorem dX7_most_44 : decode cX7_most 44 = .ok (.istore_n 2, 1) := dk_61 (dk_at dksX7_most_1 21 rfl rfl)
theorem dX7_most_45 : decode cX7_most 45 = .ok (.iload_n 1, 1) := dk_27 (dk_at dksX7_most_1 22 rfl rfl)
theorem dX7_most_46 : decode cX7_most 46 = .ok (.bipush 20, 2) := dk_16 20 (dk_at dksX7_most_2 0 rfl rfl)
theorem dX7_most_48 : decode cX7_most 48 = .ok (.if_icmp .ne 7, 3) := dk_160 0 7 (dk_at dksX7_most_2 2 rfl rfl)
theorem dX7_most_51 : decode cX7_most 51 = .ok (.iload_n 2, 1) := dk_28 (dk_at dksX7_most_2 5 rfl rfl)
theorem dX7_most_52 : decode cX7_most 52 = .ok (.goto 29, 3) := dk_167 0 29 (dk_at dksX7_most_2 6 rfl rfl)
theorem dX7_most_55 : decode cX7_most 55 = .ok (.iload_n 1, 1) := dk_27 (dk_at dksX7_most_2 9 rfl rfl)
theorem dX7_most_56 : decode cX7_most 56 = .ok (.bipush 21, 2) := dk_16 21 (dk_at dksX7_most_2 10 rfl rfl)
theorem dX7_most_58 : decode cX7_most 58 = .ok (.if_icmp .ne 18, 3) := dk_160 0 18 (dk_at dksX7_most_2 12 rfl rfl)
theorem dX7_most_61 : decode cX7_most 61 = .ok (.sipush 10000, 3) := dk_17 39 16 (dk_at dksX7_most_2 15 rfl rfl)
theorem dX7_most_64 : decode cX7_most 64 = .ok (.iload_n 2, 1) := dk_28 (dk_at dksX7_most_2 18 rfl rfl)
theorem dX7_most_65 : decode cX7_most 65 = .ok (.imul, 1) := dk_104 (dk_at dksX7_most_2 19 rfl rfl)
theorem dX7_most_66 : decode cX7_most 66 = .ok (.aload_n 0, 1) := dk_42 (dk_at dksX7_most_2 20 rfl rfl)
theorem dX7_most_67 : decode cX7_most 67 = .ok (.getfield 78, 3) := dk_180 0 78 (dk_at dksX7_most_2 21 rfl rfl)
theorem dX7_most_70 : decode cX7_most 70 = .ok (.iconst 0, 1) := dk_3 (dk_at dksX7_most_3 0 rfl rfl)
theorem dX7_most_71 : decode cX7_most 71 = .ok (.iaload, 1) := dk_46 (dk_at dksX7_most_3 1 rfl rfl)
theorem dX7_most_72 : decode cX7_most 72 = .ok (.isub, 1) := dk_100 (dk_at dksX7_most_3 2 rfl rfl)
theorem dX7_most_73 : decode cX7_most 73 = .ok (.goto 8, 3) := dk_167 0 8 (dk_at dksX7_most_3 3 rfl rfl)
theorem dX7_most_76 : decode cX7_most 76 = .ok (.aload_n 0, 1) := dk_42 (dk_at dksX7_most_3 6 rfl rfl)
theorem dX7_most_77 : decode cX7_most 77 = .ok (.iload_n 1, 1) := dk_27 (dk_at dksX7_most_3 7 rfl rfl)
theorem dX7_most_78 : decode cX7_most 78 = .ok (.invokevirtual 343, 3) := dk_182 1 87 (dk_at dksX7_most_3 8 rfl rfl)
theorem dX7_most_81 : decode cX7_most 81 = .ok (.ireturn, 1) := dk_172 (dk_at dksX7_most_3 11 rfl rfl)
abbrev cX7_isOne : ByteArray := prog_21_method_74_code
def yX7_isOne : MethodName := ⟨RX7, "isOne", "(II)Z"⟩
def dkwX7_isOne_1 : List UInt8 := [3, 172]
abbrev dktX7_isOne_1 : List UInt8 := dkwX7_isOne_1 ++ []
def dkwX7_isOne_0 : List UInt8 := [42, 27, 182, 0, 108, 153, 0, 19, 42, 180, 0, 7, 3, 27, 96, 46, 28, 160, 0, 7, 4, 167, 0, 4]
abbrev dktX7_isOne_0 : List UInt8 := dkwX7_isOne_0 ++ dktX7_isOne_1
theorem dksX7_isOne_0 : cX7_isOne.data.toList.drop 0 = dktX7_isOne_0 := by decide +kernel
theorem dksX7_isOne_1 : cX7_isOne.data.toList.drop 24 = dktX7_isOne_1 := dk_seg dksX7_isOne_0 24 rfl rfl
theorem dX7_isOne_0 : decode cX7_isOne 0 = .ok (.aload_n 0, 1) := dk_42 (dk_at dksX7_isOne_0 0 rfl rfl)
theorem dX7_isOne_1 : decode cX7_isOne 1 = .ok (.iload_n 1, 1) := dk_27 (dk_at dksX7_isOne_0 1 rfl rfl)
theorem dX7_isOne_2 : decode cX7_isOne 2 = .ok (.invokevirtual 108, 3) := dk_182 0 108 (dk_at dksX7_isOne_0 2 rfl rfl)
theorem dX7_isOne_5 : decode cX7_isOne 5 = .ok (.ifCond .eq 19, 3) := dk_153 0 19 (dk_at dksX7_isOne_0 5 rfl rfl)
theorem dX7_isOne_8 : decode cX7_isOne 8 = .ok (.aload_n 0, 1) := dk_42 (dk_at dksX7_isOne_0 8 rfl rfl)
theorem dX7_isOne_9 : decode cX7_isOne 9 = .ok (.getfield 7, 3) := dk_180 0 7 (dk_at dksX7_isOne_0 9 rfl rfl)
theorem dX7_isOne_12 : decode cX7_isOne 12 = .ok (.iconst 0, 1) := dk_3 (dk_at dksX7_isOne_0 12 rfl rfl)
theorem dX7_isOne_13 : decode cX7_isOne 13 = .ok (.iload_n 1, 1) := dk_27 (dk_at dksX7_isOne_0 13 rfl rfl)
theorem dX7_isOne_14 : decode cX7_isOne 14 = .ok (.iadd, 1) := dk_96 (dk_at dksX7_isOne_0 14 rfl rfl)
theorem dX7_isOne_15 : decode cX7_isOne 15 = .ok (.iaload, 1) := dk_46 (dk_at dksX7_isOne_0 15 rfl rfl)
theorem dX7_isOne_16 : decode cX7_isOne 16 = .ok (.iload_n 2, 1) := dk_28 (dk_at dksX7_isOne_0 16 rfl rfl)
theorem dX7_isOne_17 : decode cX7_isOne 17 = .ok (.if_icmp .ne 7, 3) := dk_160 0 7 (dk_at dksX7_isOne_0 17 rfl rfl)
theorem dX7_isOne_20 : decode cX7_isOne 20 = .ok (.iconst 1, 1) := dk_4 (dk_at dksX7_isOne_0 20 rfl rfl)
theorem dX7_isOne_21 : decode cX7_isOne 21 = .ok (.goto 4, 3) := dk_167 0 4 (dk_at dksX7_isOne_0 21 rfl rfl)
theorem dX7_isOne_24 : decode cX7_isOne 24 = .ok (.iconst 0, 1) := dk_3 (dk_at dksX7_isOne_1 0 rfl rfl)
theorem dX7_isOne_25 : decode cX7_isOne 25 = .ok (.ireturn, 1) := dk_172 (dk_at dksX7_isOne_1 1 rfl rfl)
abbrev cX7_laysMost : ByteArray := prog_21_method_76_code
def yX7_laysMost : MethodName := ⟨RX7, "laysMost", "()V"⟩
def dkwX7_laysMost_6 : List UInt8 := [17, 16, 0, 27, 104, 28, 96, 29, 79, 132, 2, 1, 167, 255, 141, 132, 1, 255, 167, 255, 129, 177]
abbrev dktX7_laysMost_6 : List UInt8 := dkwX7_laysMost_6 ++ []
def dkwX7_laysMost_5 : List UInt8 := [4, 21, 4, 120, 128, 96, 46, 96, 184, 0, 242, 62, 132, 4, 1, 167, 255, 185, 42, 180, 0, 78]
abbrev dktX7_laysMost_5 : List UInt8 := dkwX7_laysMost_5 ++ dktX7_laysMost_6
def dkwX7_laysMost_4 : List UInt8 := [180, 0, 71, 16, 12, 27, 104, 21, 4, 96, 46, 100, 42, 180, 0, 78, 17, 16, 0, 27, 4, 96, 104, 28]
abbrev dktX7_laysMost_4 : List UInt8 := dkwX7_laysMost_4 ++ dktX7_laysMost_5
def dkwX7_laysMost_3 : List UInt8 := [182, 1, 78, 153, 0, 61, 42, 27, 21, 4, 28, 182, 1, 81, 153, 0, 44, 29, 17, 39, 16, 42]
abbrev dktX7_laysMost_3 : List UInt8 := dkwX7_laysMost_3 ++ dktX7_laysMost_4
def dkwX7_laysMost_2 : List UInt8 := [17, 16, 0, 27, 4, 96, 104, 28, 96, 46, 62, 3, 54, 4, 21, 4, 16, 12, 162, 0, 70, 42, 27, 3]
abbrev dktX7_laysMost_2 : List UInt8 := dkwX7_laysMost_2 ++ dktX7_laysMost_3
def dkwX7_laysMost_1 : List UInt8 := [167, 255, 235, 16, 11, 60, 27, 155, 0, 129, 3, 61, 28, 17, 16, 0, 162, 0, 114, 42, 180, 0, 78]
abbrev dktX7_laysMost_1 : List UInt8 := dkwX7_laysMost_1 ++ dktX7_laysMost_2
def dkwX7_laysMost_0 : List UInt8 := [3, 60, 27, 17, 16, 0, 162, 0, 20, 42, 180, 0, 78, 19, 1, 77, 27, 96, 3, 79, 132, 1, 1]
abbrev dktX7_laysMost_0 : List UInt8 := dkwX7_laysMost_0 ++ dktX7_laysMost_1
theorem dksX7_laysMost_0 : cX7_laysMost.data.toList.drop 0 = dktX7_laysMost_0 := by decide +kernel
theorem dksX7_laysMost_1 : cX7_laysMost.data.toList.drop 23 = dktX7_laysMost_1 := dk_seg dksX7_laysMost_0 23 rfl rfl
theorem dksX7_laysMost_2 : cX7_laysMost.data.toList.drop 46 = dktX7_laysMost_2 := dk_seg dksX7_laysMost_1 23 rfl rfl
theorem dksX7_laysMost_3 : cX7_laysMost.data.toList.drop 70 = dktX7_laysMost_3 := dk_seg dksX7_laysMost_2 24 rfl rfl
theorem dksX7_laysMost_4 : cX7_laysMost.data.toList.drop 92 = dktX7_laysMost_4 := dk_seg dksX7_laysMost_3 22 rfl rfl
theorem dksX7_laysMost_5 : cX7_laysMost.data.toList.drop 116 = dktX7_laysMost_5 := dk_seg dksX7_laysMost_4 24 rfl rfl
theorem dksX7_laysMost_6 : cX7_laysMost.data.toList.drop 138 = dktX7_laysMost_6 := dk_seg dksX7_laysMost_5 22 rfl rfl
theorem dX7_laysMost_0 : decode cX7_laysMost 0 = .ok (.iconst 0, 1) := dk_3 (dk_at dksX7_laysMost_0 0 rfl rfl)
theorem dX7_laysMost_1 : decode cX7_laysMost 1 = .ok (.istore_n 1, 1) := dk_60 (dk_at dksX7_laysMost_0 1 rfl rfl)
theorem dX7_laysMost_2 : decode cX7_laysMost 2 = .ok (.iload_n 1, 1) := dk_27 (dk_at dksX7_laysMost_0 2 rfl rfl)
theorem dX7_laysMost_3 : decode cX7_laysMost 3 = .ok (.sipush 4096, 3) := dk_17 16 0 (dk_at dksX7_laysMost_0 3 rfl rfl)
theorem dX7_laysMost_6 : decode cX7_laysMost 6 = .ok (.if_icmp .ge 20, 3) := dk_162 0 20 (dk_at dksX7_laysMost_0 6 rfl rfl)
theorem dX7_laysMost_9 : decode cX7_laysMost 9 = .ok (.aload_n 0, 1) := dk_42 (dk_at dksX7_laysMost_0 9 rfl rfl)
theorem dX7_laysMost_10 : decode cX7_laysMost 10 = .ok (.getfield 78, 3) := dk_180 0 78 (dk_at dksX7_laysMost_0 10 rfl rfl)
theorem dX7_laysMost_13 : decode cX7_laysMost 13 = .ok (.ldc_w 333, 3) := dk_19 1 77 (dk_at dksX7_laysMost_0 13 rfl rfl)
theorem dX7_laysMost_16 : decode cX7_laysMost 16 = .ok (.iload_n 1, 1) := dk_27 (dk_at dksX7_laysMost_0 16 rfl rfl)
theorem dX7_laysMost_17 : decode cX7_laysMost 17 = .ok (.iadd, 1) := dk_96 (dk_at dksX7_laysMost_0 17 rfl rfl)
theorem dX7_laysMost_18 : decode cX7_laysMost 18 = .ok (.iconst 0, 1) := dk_3 (dk_at dksX7_laysMost_0 18 rfl rfl)
theorem dX7_laysMost_19 : decode cX7_laysMost 19 = .ok (.iastore, 1) := dk_79 (dk_at dksX7_laysMost_0 19 rfl rfl)
theorem dX7_laysMost_20 : decode cX7_laysMost 20 = .ok (.iinc 1 1, 3) := dk_132 1 1 (dk_at dksX7_laysMost_0 20 rfl rfl)
theorem dX7_laysMost_23 : decode cX7_laysMost 23 = .ok (.goto (-21), 3) := dk_167 255 235 (dk_at dksX7_laysMost_1 0 rfl rfl)
theorem dX7_laysMost_26 : decode cX7_laysMost 26 = .ok (.bipush 11, 2) := dk_16 11 (dk_at dksX7_laysMost_1 3 rfl rfl)
theorem dX7_laysMost_28 : decode cX7_laysMost 28 = .ok (.istore_n 1, 1) := dk_60 (dk_at dksX7_laysMost_1 5 rfl rfl)
theorem dX7_laysMost_29 : decode cX7_laysMost 29 = .ok (.iload_n 1, 1) := dk_27 (dk_at dksX7_laysMost_1 6 rfl rfl)
theorem dX7_laysMost_30 : decode cX7_laysMost 30 = .ok (.ifCond .lt 129, 3) := dk_155 0 129 (dk_at dksX7_laysMost_1 7 rfl rfl)
theorem dX7_laysMost_33 : decode cX7_laysMost 33 = .ok (.iconst 0, 1) := dk_3 (dk_at dksX7_laysMost_1 10 rfl rfl)
theorem dX7_laysMost_34 : decode cX7_laysMost 34 = .ok (.istore_n 2, 1) := dk_61 (dk_at dksX7_laysMost_1 11 rfl rfl)
theorem dX7_laysMost_35 : decode cX7_laysMost 35 = .ok (.iload_n 2, 1) := dk_28 (dk_at dksX7_laysMost_1 12 rfl rfl)
theorem dX7_laysMost_36 : decode cX7_laysMost 36 = .ok (.sipush 4096, 3) := dk_17 16 0 (dk_at dksX7_laysMost_1 13 rfl rfl)
theorem dX7_laysMost_39 : decode cX7_laysMost 39 = .ok (.if_icmp .ge 114, 3) := dk_162 0 114 (dk_at dksX7_laysMost_1 16 rfl rfl)
theorem dX7_laysMost_42 : decode cX7_laysMost 42 = .ok (.aload_n 0, 1) := dk_42 (dk_at dksX7_laysMost_1 19 rfl rfl)
theorem dX7_laysMost_43 : decode cX7_laysMost 43 = .ok (.getfield 78, 3) := dk_180 0 78 (dk_at dksX7_laysMost_1 20 rfl rfl)
theorem dX7_laysMost_46 : decode cX7_laysMost 46 = .ok (.sipush 4096, 3) := dk_17 16 0 (dk_at dksX7_laysMost_2 0 rfl rfl)
theorem dX7_laysMost_49 : decode cX7_laysMost 49 = .ok (.iload_n 1, 1) := dk_27 (dk_at dksX7_laysMost_2 3 rfl rfl)
theorem dX7_laysMost_50 : decode cX7_laysMost 50 = .ok (.iconst 1, 1) := dk_4 (dk_at dksX7_laysMost_2 4 rfl rfl)
theorem dX7_laysMost_51 : decode cX7_laysMost 51 = .ok (.iadd, 1) := dk_96 (dk_at dksX7_laysMost_2 5 rfl rfl)
theorem dX7_laysMost_52 : decode cX7_laysMost 52 = .ok (.imul, 1) := dk_104 (dk_at dksX7_laysMost_2 6 rfl rfl)
theorem dX7_laysMost_53 : decode cX7_laysMost 53 = .ok (.iload_n 2, 1) := dk_28 (dk_at dksX7_laysMost_2 7 rfl rfl)
theorem dX7_laysMost_54 : decode cX7_laysMost 54 = .ok (.iadd, 1) := dk_96 (dk_at dksX7_laysMost_2 8 rfl rfl)
theorem dX7_laysMost_55 : decode cX7_laysMost 55 = .ok (.iaload, 1) := dk_46 (dk_at dksX7_laysMost_2 9 rfl rfl)
theorem dX7_laysMost_56 : decode cX7_laysMost 56 = .ok (.istore_n 3, 1) := dk_62 (dk_at dksX7_laysMost_2 10 rfl rfl)
theorem dX7_laysMost_57 : decode cX7_laysMost 57 = .ok (.iconst 0, 1) := dk_3 (dk_at dksX7_laysMost_2 11 rfl rfl)
theorem dX7_laysMost_58 : decode cX7_laysMost 58 = .ok (.istore 4, 2) := dk_54 4 (dk_at dksX7_laysMost_2 12 rfl rfl)
theorem dX7_laysMost_60 : decode cX7_laysMost 60 = .ok (.iload 4, 2) := dk_21 4 (dk_at dksX7_laysMost_2 14 rfl rfl)
theorem dX7_laysMost_62 : decode cX7_laysMost 62 = .ok (.bipush 12, 2) := dk_16 12 (dk_at dksX7_laysMost_2 16 rfl rfl)
theorem dX7_laysMost_64 : decode cX7_laysMost 64 = .ok (.if_icmp .ge 70, 3) := dk_162 0 70 (dk_at dksX7_laysMost_2 18 rfl rfl)
theorem dX7_laysMost_67 : decode cX7_laysMost 67 = .ok (.aload_n 0, 1) := dk_42 (dk_at dksX7_laysMost_2 21 rfl rfl)
theorem dX7_laysMost_68 : decode cX7_laysMost 68 = .ok (.iload_n 1, 1) := dk_27 (dk_at dksX7_laysMost_2 22 rfl rfl)
theorem dX7_laysMost_69 : decode cX7_laysMost 69 = .ok (.iconst 0, 1) := dk_3 (dk_at dksX7_laysMost_2 23 rfl rfl)
theorem dX7_laysMost_70 : decode cX7_laysMost 70 = .ok (.invokevirtual 334, 3) := dk_182 1 78 (dk_at dksX7_laysMost_3 0 rfl rfl)
theorem dX7_laysMost_73 : decode cX7_laysMost 73 = .ok (.ifCond .eq 61, 3) := dk_153 0 61 (dk_at dksX7_laysMost_3 3 rfl rfl)
theorem dX7_laysMost_76 : decode cX7_laysMost 76 = .ok (.aload_n 0, 1) := dk_42 (dk_at dksX7_laysMost_3 6 rfl rfl)
theorem dX7_laysMost_77 : decode cX7_laysMost 77 = .ok (.iload_n 1, 1) := dk_27 (dk_at dksX7_laysMost_3 7 rfl rfl)
theorem dX7_laysMost_78 : decode cX7_laysMost 78 = .ok (.iload 4, 2) := dk_21 4 (dk_at dksX7_laysMost_3 8 rfl rfl)
theorem dX7_laysMost_80 : decode cX7_laysMost 80 = .ok (.iload_n 2, 1) := dk_28 (dk_at dksX7_laysMost_3 10 rfl rfl)
theorem dX7_laysMost_81 : decode cX7_laysMost 81 = .ok (.invokevirtual 337, 3) := dk_182 1 81 (dk_at dksX7_laysMost_3 11 rfl rfl)
theorem dX7_laysMost_84 : decode cX7_laysMost 84 = .ok (.ifCond .eq 44, 3) := dk_153 0 44 (dk_at dksX7_laysMost_3 14 rfl rfl)
theorem dX7_laysMost_87 : decode cX7_laysMost 87 = .ok (.iload_n 3, 1) := dk_29 (dk_at dksX7_laysMost_3 17 rfl rfl)
theorem dX7_laysMost_88 : decode cX7_laysMost 88 = .ok (.sipush 10000, 3) := dk_17 39 16 (dk_at dksX7_laysMost_3 18 rfl rfl)
theorem dX7_laysMost_91 : decode cX7_laysMost 91 = .ok (.aload_n 0, 1) := dk_42 (dk_at dksX7_laysMost_3 21 rfl rfl)
theorem dX7_laysMost_92 : decode cX7_laysMost 92 = .ok (.getfield 71, 3) := dk_180 0 71 (dk_at dksX7_laysMost_4 0 rfl rfl)
theorem dX7_laysMost_95 : decode cX7_laysMost 95 = .ok (.bipush 12, 2) := dk_16 12 (dk_at dksX7_laysMost_4 3 rfl rfl)
theorem dX7_laysMost_97 : decode cX7_laysMost 97 = .ok (.iload_n 1, 1) := dk_27 (dk_at dksX7_laysMost_4 5 rfl rfl)
theorem dX7_laysMost_98 : decode cX7_laysMost 98 = .ok (.imul, 1) := dk_104 (dk_at dksX7_laysMost_4 6 rfl rfl)
theorem dX7_laysMost_99 : decode cX7_laysMost 99 = .ok (.iload 4, 2) := dk_21 4 (dk_at dksX7_laysMost_4 7 rfl rfl)
theorem dX7_laysMost_101 : decode cX7_laysMost 101 = .ok (.iadd, 1) := dk_96 (dk_at dksX7_laysMost_4 9 rfl rfl)
theorem dX7_laysMost_102 : decode cX7_laysMost 102 = .ok (.iaload, 1) := dk_46 (dk_at dksX7_laysMost_4 10 rfl rfl)
theorem dX7_laysMost_103 : decode cX7_laysMost 103 = .ok (.isub, 1) := dk_100 (dk_at dksX7_laysMost_4 11 rfl rfl)
theorem dX7_laysMost_104 : decode cX7_laysMost 104 = .ok (.aload_n 0, 1) := dk_42 (dk_at dksX7_laysMost_4 12 rfl rfl)
theorem dX7_laysMost_105 : decode cX7_laysMost 105 = .ok (.getfield 78, 3) := dk_180 0 78 (dk_at dksX7_laysMost_4 13 rfl rfl)
theorem dX7_laysMost_108 : decode cX7_laysMost 108 = .ok (.sipush 4096, 3) := dk_17 16 0 (dk_at dksX7_laysMost_4 16 rfl rfl)
theorem dX7_laysMost_111 : decode cX7_laysMost 111 = .ok (.iload_n 1, 1) := dk_27 (dk_at dksX7_laysMost_4 19 rfl rfl)
theorem dX7_laysMost_112 : decode cX7_laysMost 112 = .ok (.iconst 1, 1) := dk_4 (dk_at dksX7_laysMost_4 20 rfl rfl)
theorem dX7_laysMost_113 : decode cX7_laysMost 113 = .ok (.iadd, 1) := dk_96 (dk_at dksX7_laysMost_4 21 rfl rfl)
theorem dX7_laysMost_114 : decode cX7_laysMost 114 = .ok (.imul, 1) := dk_104 (dk_at dksX7_laysMost_4 22 rfl rfl)
theorem dX7_laysMost_115 : decode cX7_laysMost 115 = .ok (.iload_n 2, 1) := dk_28 (dk_at dksX7_laysMost_4 23 rfl rfl)
theorem dX7_laysMost_116 : decode cX7_laysMost 116 = .ok (.iconst 1, 1) := dk_4 (dk_at dksX7_laysMost_5 0 rfl rfl)
theorem dX7_laysMost_117 : decode cX7_laysMost 117 = .ok (.iload 4, 2) := dk_21 4 (dk_at dksX7_laysMost_5 1 rfl rfl)
theorem dX7_laysMost_119 : decode cX7_laysMost 119 = .ok (.ishl, 1) := dk_120 (dk_at dksX7_laysMost_5 3 rfl rfl)
theorem dX7_laysMost_120 : decode cX7_laysMost 120 = .ok (.ior, 1) := dk_128 (dk_at dksX7_laysMost_5 4 rfl rfl)
theorem dX7_laysMost_121 : decode cX7_laysMost 121 = .ok (.iadd, 1) := dk_96 (dk_at dksX7_laysMost_5 5 rfl rfl)
theorem dX7_laysMost_122 : decode cX7_laysMost 122 = .ok (.iaload, 1) := dk_46 (dk_at dksX7_laysMost_5 6 rfl rfl)
theorem dX7_laysMost_123 : decode cX7_laysMost 123 = .ok (.iadd, 1) := dk_96 (dk_at dksX7_laysMost_5 7 rfl rfl)
theorem dX7_laysMost_124 : decode cX7_laysMost 124 = .ok (.invokestatic 242, 3) := dk_184 0 242 (dk_at dksX7_laysMost_5 8 rfl rfl)
theorem dX7_laysMost_127 : decode cX7_laysMost 127 = .ok (.istore_n 3, 1) := dk_62 (dk_at dksX7_laysMost_5 11 rfl rfl)
theorem dX7_laysMost_128 : decode cX7_laysMost 128 = .ok (.iinc 4 1, 3) := dk_132 4 1 (dk_at dksX7_laysMost_5 12 rfl rfl)
theorem dX7_laysMost_131 : decode cX7_laysMost 131 = .ok (.goto (-71), 3) := dk_167 255 185 (dk_at dksX7_laysMost_5 15 rfl rfl)
theorem dX7_laysMost_134 : decode cX7_laysMost 134 = .ok (.aload_n 0, 1) := dk_42 (dk_at dksX7_laysMost_5 18 rfl rfl)
theorem dX7_laysMost_135 : decode cX7_laysMost 135 = .ok (.getfield 78, 3) := dk_180 0 78 (dk_at dksX7_laysMost_5 19 rfl rfl)
theorem dX7_laysMost_138 : decode cX7_laysMost 138 = .ok (.sipush 4096, 3) := dk_17 16 0 (dk_at dksX7_laysMost_6 0 rfl rfl)
theorem dX7_laysMost_141 : decode cX7_laysMost 141 = .ok (.iload_n 1, 1) := dk_27 (dk_at dksX7_laysMost_6 3 rfl rfl)
theorem dX7_laysMost_142 : decode cX7_laysMost 142 = .ok (.imul, 1) := dk_104 (dk_at dksX7_laysMost_6 4 rfl rfl)
theorem dX7_laysMost_143 : decode cX7_laysMost 143 = .ok (.iload_n 2, 1) := dk_28 (dk_at dksX7_laysMost_6 5 rfl rfl)
theorem dX7_laysMost_144 : decode cX7_laysMost 144 = .ok (.iadd, 1) := dk_96 (dk_at dksX7_laysMost_6 6 rfl rfl)
theorem dX7_laysMost_145 : decode cX7_laysMost 145 = .ok (.iload_n 3, 1) := dk_29 (dk_at dksX7_laysMost_6 7 rfl rfl)
theorem dX7_laysMost_146 : decode cX7_laysMost 146 = .ok (.iastore, 1) := dk_79 (dk_at dksX7_laysMost_6 8 rfl rfl)
theorem dX7_laysMost_147 : decode cX7_laysMost 147 = .ok (.iinc 2 1, 3) := dk_132 2 1 (dk_at dksX7_laysMost_6 9 rfl rfl)
theorem dX7_laysMost_150 : decode cX7_laysMost 150 = .ok (.goto (-115), 3) := dk_167 255 141 (dk_at dksX7_laysMost_6 12 rfl rfl)
theorem dX7_laysMost_153 : decode cX7_laysMost 153 = .ok (.iinc 1 (-1), 3) := dk_132 1 255 (dk_at dksX7_laysMost_6 15 rfl rfl)
theorem dX7_laysMost_156 : decode cX7_laysMost 156 = .ok (.goto (-127), 3) := dk_167 255 129 (dk_at dksX7_laysMost_6 18 rfl rfl)
theorem dX7_laysMost_159 : decode cX7_laysMost 159 = .ok (.return_, 1) := dk_177 (dk_at dksX7_laysMost_6 21 rfl rfl)
abbrev cX7_mayGet : ByteArray := prog_21_method_75_code
def yX7_mayGet : MethodName := ⟨RX7, "mayGet", "(III)Z"⟩
def dkwX7_mayGet_1 : List UInt8 := [160, 0, 15, 29, 28, 184, 0, 101, 154, 0, 7, 4, 167, 0, 4, 3, 172]
abbrev dktX7_mayGet_1 : List UInt8 := dkwX7_mayGet_1 ++ []
def dkwX7_mayGet_0 : List UInt8 := [42, 180, 0, 68, 27, 46, 28, 184, 0, 101, 153, 0, 27, 42, 180, 0, 7, 3, 28, 96, 46, 4]
abbrev dktX7_mayGet_0 : List UInt8 := dkwX7_mayGet_0 ++ dktX7_mayGet_1
theorem dksX7_mayGet_0 : cX7_mayGet.data.toList.drop 0 = dktX7_mayGet_0 := by decide +kernel
theorem dksX7_mayGet_1 : cX7_mayGet.data.toList.drop 22 = dktX7_mayGet_1 := dk_seg dksX7_mayGet_0 22 rfl rfl
theorem dX7_mayGet_0 : decode cX7_mayGet 0 = .ok (.aload_n 0, 1) := dk_42 (dk_at dksX7_mayGet_0 0 rfl rfl)
theorem dX7_mayGet_1 : decode cX7_mayGet 1 = .ok (.getfield 68, 3) := dk_180 0 68 (dk_at dksX7_mayGet_0 1 rfl rfl)
theorem dX7_mayGet_4 : decode cX7_mayGet 4 = .ok (.iload_n 1, 1) := dk_27 (dk_at dksX7_mayGet_0 4 rfl rfl)
theorem dX7_mayGet_5 : decode cX7_mayGet 5 = .ok (.iaload, 1) := dk_46 (dk_at dksX7_mayGet_0 5 rfl rfl)
theorem dX7_mayGet_6 : decode cX7_mayGet 6 = .ok (.iload_n 2, 1) := dk_28 (dk_at dksX7_mayGet_0 6 rfl rfl)
theorem dX7_mayGet_7 : decode cX7_mayGet 7 = .ok (.invokestatic 101, 3) := dk_184 0 101 (dk_at dksX7_mayGet_0 7 rfl rfl)
theorem dX7_mayGet_10 : decode cX7_mayGet 10 = .ok (.ifCond .eq 27, 3) := dk_153 0 27 (dk_at dksX7_mayGet_0 10 rfl rfl)
theorem dX7_mayGet_13 : decode cX7_mayGet 13 = .ok (.aload_n 0, 1) := dk_42 (dk_at dksX7_mayGet_0 13 rfl rfl)
theorem dX7_mayGet_14 : decode cX7_mayGet 14 = .ok (.getfield 7, 3) := dk_180 0 7 (dk_at dksX7_mayGet_0 14 rfl rfl)
theorem dX7_mayGet_17 : decode cX7_mayGet 17 = .ok (.iconst 0, 1) := dk_3 (dk_at dksX7_mayGet_0 17 rfl rfl)
theorem dX7_mayGet_18 : decode cX7_mayGet 18 = .ok (.iload_n 2, 1) := dk_28 (dk_at dksX7_mayGet_0 18 rfl rfl)
theorem dX7_mayGet_19 : decode cX7_mayGet 19 = .ok (.iadd, 1) := dk_96 (dk_at dksX7_mayGet_0 19 rfl rfl)
theorem dX7_mayGet_20 : decode cX7_mayGet 20 = .ok (.iaload, 1) := dk_46 (dk_at dksX7_mayGet_0 20 rfl rfl)
theorem dX7_mayGet_21 : decode cX7_mayGet 21 = .ok (.iconst 1, 1) := dk_4 (dk_at dksX7_mayGet_0 21 rfl rfl)
theorem dX7_mayGet_22 : decode cX7_mayGet 22 = .ok (.if_icmp .ne 15, 3) := dk_160 0 15 (dk_at dksX7_mayGet_1 0 rfl rfl)
theorem dX7_mayGet_25 : decode cX7_mayGet 25 = .ok (.iload_n 3, 1) := dk_29 (dk_at dksX7_mayGet_1 3 rfl rfl)
theorem dX7_mayGet_26 : decode cX7_mayGet 26 = .ok (.iload_n 2, 1) := dk_28 (dk_at dksX7_mayGet_1 4 rfl rfl)
theorem dX7_mayGet_27 : decode cX7_mayGet 27 = .ok (.invokestatic 101, 3) := dk_184 0 101 (dk_at dksX7_mayGet_1 5 rfl rfl)
theorem dX7_mayGet_30 : decode cX7_mayGet 30 = .ok (.ifCond .ne 7, 3) := dk_154 0 7 (dk_at dksX7_mayGet_1 8 rfl rfl)
theorem dX7_mayGet_33 : decode cX7_mayGet 33 = .ok (.iconst 1, 1) := dk_4 (dk_at dksX7_mayGet_1 11 rfl rfl)
theorem dX7_mayGet_34 : decode cX7_mayGet 34 = .ok (.goto 4, 3) := dk_167 0 4 (dk_at dksX7_mayGet_1 12 rfl rfl)
theorem dX7_mayGet_37 : decode cX7_mayGet 37 = .ok (.iconst 0, 1) := dk_3 (dk_at dksX7_mayGet_1 15 rfl rfl)
theorem dX7_mayGet_38 : decode cX7_mayGet 38 = .ok (.ireturn, 1) := dk_172 (dk_at dksX7_mayGet_1 16 rfl rfl)
abbrev cX7_getsBy : ByteArray := prog_21_method_77_code
def yX7_getsBy : MethodName := ⟨RX7, "getsBy", "(I)I"⟩
def dkwX7_getsBy_6 : List UInt8 := [167, 0, 4, 29, 172]
abbrev dktX7_getsBy_6 : List UInt8 := dkwX7_getsBy_6 ++ []
def dkwX7_getsBy_5 : List UInt8 := [167, 0, 8, 28, 4, 29, 120, 128, 61, 132, 4, 1, 167, 255, 136, 29, 16, 12, 160, 0, 8, 16, 254]
abbrev dktX7_getsBy_5 : List UInt8 := dkwX7_getsBy_5 ++ dktX7_getsBy_6
def dkwX7_getsBy_4 : List UInt8 := [96, 46, 96, 21, 5, 159, 0, 10, 29, 4, 96, 62, 167, 255, 194, 29, 16, 12, 160, 0, 7, 28]
abbrev dktX7_getsBy_4 : List UInt8 := dkwX7_getsBy_4 ++ dktX7_getsBy_5
def dkwX7_getsBy_3 : List UInt8 := [21, 4, 104, 29, 96, 46, 100, 42, 180, 0, 78, 17, 16, 0, 21, 4, 4, 96, 104, 28, 4, 29, 120, 128]
abbrev dktX7_getsBy_3 : List UInt8 := dkwX7_getsBy_3 ++ dktX7_getsBy_4
def dkwX7_getsBy_2 : List UInt8 := [162, 0, 62, 42, 21, 4, 29, 28, 182, 1, 81, 153, 0, 44, 17, 39, 16, 42, 180, 0, 71, 16, 12]
abbrev dktX7_getsBy_2 : List UInt8 := dkwX7_getsBy_2 ++ dktX7_getsBy_3
def dkwX7_getsBy_1 : List UInt8 := [167, 0, 101, 42, 180, 0, 78, 17, 16, 0, 21, 4, 104, 28, 96, 46, 54, 5, 3, 62, 29, 16, 12]
abbrev dktX7_getsBy_1 : List UInt8 := dkwX7_getsBy_1 ++ dktX7_getsBy_2
def dkwX7_getsBy_0 : List UInt8 := [3, 61, 16, 12, 62, 3, 54, 4, 21, 4, 27, 163, 0, 120, 42, 21, 4, 3, 182, 1, 78, 154, 0, 6]
abbrev dktX7_getsBy_0 : List UInt8 := dkwX7_getsBy_0 ++ dktX7_getsBy_1
theorem dksX7_getsBy_0 : cX7_getsBy.data.toList.drop 0 = dktX7_getsBy_0 := by decide +kernel
theorem dksX7_getsBy_1 : cX7_getsBy.data.toList.drop 24 = dktX7_getsBy_1 := dk_seg dksX7_getsBy_0 24 rfl rfl
theorem dksX7_getsBy_2 : cX7_getsBy.data.toList.drop 47 = dktX7_getsBy_2 := dk_seg dksX7_getsBy_1 23 rfl rfl
theorem dksX7_getsBy_3 : cX7_getsBy.data.toList.drop 70 = dktX7_getsBy_3 := dk_seg dksX7_getsBy_2 23 rfl rfl
theorem dksX7_getsBy_4 : cX7_getsBy.data.toList.drop 94 = dktX7_getsBy_4 := dk_seg dksX7_getsBy_3 24 rfl rfl
theorem dksX7_getsBy_5 : cX7_getsBy.data.toList.drop 116 = dktX7_getsBy_5 := dk_seg dksX7_getsBy_4 22 rfl rfl
theorem dksX7_getsBy_6 : cX7_getsBy.data.toList.drop 139 = dktX7_getsBy_6 := dk_seg dksX7_getsBy_5 23 rfl rfl
theorem dX7_getsBy_0 : decode cX7_getsBy 0 = .ok (.iconst 0, 1) := dk_3 (dk_at dksX7_getsBy_0 0 rfl rfl)
theorem dX7_getsBy_1 : decode cX7_getsBy 1 = .ok (.istore_n 2, 1) := dk_61 (dk_at dksX7_getsBy_0 1 rfl rfl)
theorem dX7_getsBy_2 : decode cX7_getsBy 2 = .ok (.bipush 12, 2) := dk_16 12 (dk_at dksX7_getsBy_0 2 rfl rfl)
theorem dX7_getsBy_4 : decode cX7_getsBy 4 = .ok (.istore_n 3, 1) := dk_62 (dk_at dksX7_getsBy_0 4 rfl rfl)
theorem dX7_getsBy_5 : decode cX7_getsBy 5 = .ok (.iconst 0, 1) := dk_3 (dk_at dksX7_getsBy_0 5 rfl rfl)
theorem dX7_getsBy_6 : decode cX7_getsBy 6 = .ok (.istore 4, 2) := dk_54 4 (dk_at dksX7_getsBy_0 6 rfl rfl)
theorem dX7_getsBy_8 : decode cX7_getsBy 8 = .ok (.iload 4, 2) := dk_21 4 (dk_at dksX7_getsBy_0 8 rfl rfl)
theorem dX7_getsBy_10 : decode cX7_getsBy 10 = .ok (.iload_n 1, 1) := dk_27 (dk_at dksX7_getsBy_0 10 rfl rfl)
theorem dX7_getsBy_11 : decode cX7_getsBy 11 = .ok (.if_icmp .gt 120, 3) := dk_163 0 120 (dk_at dksX7_getsBy_0 11 rfl rfl)
theorem dX7_getsBy_14 : decode cX7_getsBy 14 = .ok (.aload_n 0, 1) := dk_42 (dk_at dksX7_getsBy_0 14 rfl rfl)
theorem dX7_getsBy_15 : decode cX7_getsBy 15 = .ok (.iload 4, 2) := dk_21 4 (dk_at dksX7_getsBy_0 15 rfl rfl)
theorem dX7_getsBy_17 : decode cX7_getsBy 17 = .ok (.iconst 0, 1) := dk_3 (dk_at dksX7_getsBy_0 17 rfl rfl)
theorem dX7_getsBy_18 : decode cX7_getsBy 18 = .ok (.invokevirtual 334, 3) := dk_182 1 78 (dk_at dksX7_getsBy_0 18 rfl rfl)
theorem dX7_getsBy_21 : decode cX7_getsBy 21 = .ok (.ifCond .ne 6, 3) := dk_154 0 6 (dk_at dksX7_getsBy_0 21 rfl rfl)
theorem dX7_getsBy_24 : decode cX7_getsBy 24 = .ok (.goto 101, 3) := dk_167 0 101 (dk_at dksX7_getsBy_1 0 rfl rfl)
theorem dX7_getsBy_27 : decode cX7_getsBy 27 = .ok (.aload_n 0, 1) := dk_42 (dk_at dksX7_getsBy_1 3 rfl rfl)
theorem dX7_getsBy_28 : decode cX7_getsBy 28 = .ok (.getfield 78, 3) := dk_180 0 78 (dk_at dksX7_getsBy_1 4 rfl rfl)
theorem dX7_getsBy_31 : decode cX7_getsBy 31 = .ok (.sipush 4096, 3) := dk_17 16 0 (dk_at dksX7_getsBy_1 7 rfl rfl)
theorem dX7_getsBy_34 : decode cX7_getsBy 34 = .ok (.iload 4, 2) := dk_21 4 (dk_at dksX7_getsBy_1 10 rfl rfl)
theorem dX7_getsBy_36 : decode cX7_getsBy 36 = .ok (.imul, 1) := dk_104 (dk_at dksX7_getsBy_1 12 rfl rfl)
theorem dX7_getsBy_37 : decode cX7_getsBy 37 = .ok (.iload_n 2, 1) := dk_28 (dk_at dksX7_getsBy_1 13 rfl rfl)
theorem dX7_getsBy_38 : decode cX7_getsBy 38 = .ok (.iadd, 1) := dk_96 (dk_at dksX7_getsBy_1 14 rfl rfl)
theorem dX7_getsBy_39 : decode cX7_getsBy 39 = .ok (.iaload, 1) := dk_46 (dk_at dksX7_getsBy_1 15 rfl rfl)
theorem dX7_getsBy_40 : decode cX7_getsBy 40 = .ok (.istore 5, 2) := dk_54 5 (dk_at dksX7_getsBy_1 16 rfl rfl)
theorem dX7_getsBy_42 : decode cX7_getsBy 42 = .ok (.iconst 0, 1) := dk_3 (dk_at dksX7_getsBy_1 18 rfl rfl)
theorem dX7_getsBy_43 : decode cX7_getsBy 43 = .ok (.istore_n 3, 1) := dk_62 (dk_at dksX7_getsBy_1 19 rfl rfl)
theorem dX7_getsBy_44 : decode cX7_getsBy 44 = .ok (.iload_n 3, 1) := dk_29 (dk_at dksX7_getsBy_1 20 rfl rfl)
theorem dX7_getsBy_45 : decode cX7_getsBy 45 = .ok (.bipush 12, 2) := dk_16 12 (dk_at dksX7_getsBy_1 21 rfl rfl)
theorem dX7_getsBy_47 : decode cX7_getsBy 47 = .ok (.if_icmp .ge 62, 3) := dk_162 0 62 (dk_at dksX7_getsBy_2 0 rfl rfl)
theorem dX7_getsBy_50 : decode cX7_getsBy 50 = .ok (.aload_n 0, 1) := dk_42 (dk_at dksX7_getsBy_2 3 rfl rfl)
theorem dX7_getsBy_51 : decode cX7_getsBy 51 = .ok (.iload 4, 2) := dk_21 4 (dk_at dksX7_getsBy_2 4 rfl rfl)
theorem dX7_getsBy_53 : decode cX7_getsBy 53 = .ok (.iload_n 3, 1) := dk_29 (dk_at dksX7_getsBy_2 6 rfl rfl)
theorem dX7_getsBy_54 : decode cX7_getsBy 54 = .ok (.iload_n 2, 1) := dk_28 (dk_at dksX7_getsBy_2 7 rfl rfl)
theorem dX7_getsBy_55 : decode cX7_getsBy 55 = .ok (.invokevirtual 337, 3) := dk_182 1 81 (dk_at dksX7_getsBy_2 8 rfl rfl)
theorem dX7_getsBy_58 : decode cX7_getsBy 58 = .ok (.ifCond .eq 44, 3) := dk_153 0 44 (dk_at dksX7_getsBy_2 11 rfl rfl)
theorem dX7_getsBy_61 : decode cX7_getsBy 61 = .ok (.sipush 10000, 3) := dk_17 39 16 (dk_at dksX7_getsBy_2 14 rfl rfl)
theorem dX7_getsBy_64 : decode cX7_getsBy 64 = .ok (.aload_n 0, 1) := dk_42 (dk_at dksX7_getsBy_2 17 rfl rfl)
theorem dX7_getsBy_65 : decode cX7_getsBy 65 = .ok (.getfield 71, 3) := dk_180 0 71 (dk_at dksX7_getsBy_2 18 rfl rfl)
theorem dX7_getsBy_68 : decode cX7_getsBy 68 = .ok (.bipush 12, 2) := dk_16 12 (dk_at dksX7_getsBy_2 21 rfl rfl)
theorem dX7_getsBy_70 : decode cX7_getsBy 70 = .ok (.iload 4, 2) := dk_21 4 (dk_at dksX7_getsBy_3 0 rfl rfl)
theorem dX7_getsBy_72 : decode cX7_getsBy 72 = .ok (.imul, 1) := dk_104 (dk_at dksX7_getsBy_3 2 rfl rfl)
theorem dX7_getsBy_73 : decode cX7_getsBy 73 = .ok (.iload_n 3, 1) := dk_29 (dk_at dksX7_getsBy_3 3 rfl rfl)
theorem dX7_getsBy_74 : decode cX7_getsBy 74 = .ok (.iadd, 1) := dk_96 (dk_at dksX7_getsBy_3 4 rfl rfl)
theorem dX7_getsBy_75 : decode cX7_getsBy 75 = .ok (.iaload, 1) := dk_46 (dk_at dksX7_getsBy_3 5 rfl rfl)
theorem dX7_getsBy_76 : decode cX7_getsBy 76 = .ok (.isub, 1) := dk_100 (dk_at dksX7_getsBy_3 6 rfl rfl)
theorem dX7_getsBy_77 : decode cX7_getsBy 77 = .ok (.aload_n 0, 1) := dk_42 (dk_at dksX7_getsBy_3 7 rfl rfl)
theorem dX7_getsBy_78 : decode cX7_getsBy 78 = .ok (.getfield 78, 3) := dk_180 0 78 (dk_at dksX7_getsBy_3 8 rfl rfl)
theorem dX7_getsBy_81 : decode cX7_getsBy 81 = .ok (.sipush 4096, 3) := dk_17 16 0 (dk_at dksX7_getsBy_3 11 rfl rfl)
theorem dX7_getsBy_84 : decode cX7_getsBy 84 = .ok (.iload 4, 2) := dk_21 4 (dk_at dksX7_getsBy_3 14 rfl rfl)
theorem dX7_getsBy_86 : decode cX7_getsBy 86 = .ok (.iconst 1, 1) := dk_4 (dk_at dksX7_getsBy_3 16 rfl rfl)
theorem dX7_getsBy_87 : decode cX7_getsBy 87 = .ok (.iadd, 1) := dk_96 (dk_at dksX7_getsBy_3 17 rfl rfl)
theorem dX7_getsBy_88 : decode cX7_getsBy 88 = .ok (.imul, 1) := dk_104 (dk_at dksX7_getsBy_3 18 rfl rfl)
theorem dX7_getsBy_89 : decode cX7_getsBy 89 = .ok (.iload_n 2, 1) := dk_28 (dk_at dksX7_getsBy_3 19 rfl rfl)
theorem dX7_getsBy_90 : decode cX7_getsBy 90 = .ok (.iconst 1, 1) := dk_4 (dk_at dksX7_getsBy_3 20 rfl rfl)
theorem dX7_getsBy_91 : decode cX7_getsBy 91 = .ok (.iload_n 3, 1) := dk_29 (dk_at dksX7_getsBy_3 21 rfl rfl)
theorem dX7_getsBy_92 : decode cX7_getsBy 92 = .ok (.ishl, 1) := dk_120 (dk_at dksX7_getsBy_3 22 rfl rfl)
theorem dX7_getsBy_93 : decode cX7_getsBy 93 = .ok (.ior, 1) := dk_128 (dk_at dksX7_getsBy_3 23 rfl rfl)
theorem dX7_getsBy_94 : decode cX7_getsBy 94 = .ok (.iadd, 1) := dk_96 (dk_at dksX7_getsBy_4 0 rfl rfl)
theorem dX7_getsBy_95 : decode cX7_getsBy 95 = .ok (.iaload, 1) := dk_46 (dk_at dksX7_getsBy_4 1 rfl rfl)
theorem dX7_getsBy_96 : decode cX7_getsBy 96 = .ok (.iadd, 1) := dk_96 (dk_at dksX7_getsBy_4 2 rfl rfl)
theorem dX7_getsBy_97 : decode cX7_getsBy 97 = .ok (.iload 5, 2) := dk_21 5 (dk_at dksX7_getsBy_4 3 rfl rfl)
theorem dX7_getsBy_99 : decode cX7_getsBy 99 = .ok (.if_icmp .eq 10, 3) := dk_159 0 10 (dk_at dksX7_getsBy_4 5 rfl rfl)
theorem dX7_getsBy_102 : decode cX7_getsBy 102 = .ok (.iload_n 3, 1) := dk_29 (dk_at dksX7_getsBy_4 8 rfl rfl)
theorem dX7_getsBy_103 : decode cX7_getsBy 103 = .ok (.iconst 1, 1) := dk_4 (dk_at dksX7_getsBy_4 9 rfl rfl)
theorem dX7_getsBy_104 : decode cX7_getsBy 104 = .ok (.iadd, 1) := dk_96 (dk_at dksX7_getsBy_4 10 rfl rfl)
theorem dX7_getsBy_105 : decode cX7_getsBy 105 = .ok (.istore_n 3, 1) := dk_62 (dk_at dksX7_getsBy_4 11 rfl rfl)
theorem dX7_getsBy_106 : decode cX7_getsBy 106 = .ok (.goto (-62), 3) := dk_167 255 194 (dk_at dksX7_getsBy_4 12 rfl rfl)
theorem dX7_getsBy_109 : decode cX7_getsBy 109 = .ok (.iload_n 3, 1) := dk_29 (dk_at dksX7_getsBy_4 15 rfl rfl)
theorem dX7_getsBy_110 : decode cX7_getsBy 110 = .ok (.bipush 12, 2) := dk_16 12 (dk_at dksX7_getsBy_4 16 rfl rfl)
theorem dX7_getsBy_112 : decode cX7_getsBy 112 = .ok (.if_icmp .ne 7, 3) := dk_160 0 7 (dk_at dksX7_getsBy_4 18 rfl rfl)
theorem dX7_getsBy_115 : decode cX7_getsBy 115 = .ok (.iload_n 2, 1) := dk_28 (dk_at dksX7_getsBy_4 21 rfl rfl)
theorem dX7_getsBy_116 : decode cX7_getsBy 116 = .ok (.goto 8, 3) := dk_167 0 8 (dk_at dksX7_getsBy_5 0 rfl rfl)
theorem dX7_getsBy_119 : decode cX7_getsBy 119 = .ok (.iload_n 2, 1) := dk_28 (dk_at dksX7_getsBy_5 3 rfl rfl)
theorem dX7_getsBy_120 : decode cX7_getsBy 120 = .ok (.iconst 1, 1) := dk_4 (dk_at dksX7_getsBy_5 4 rfl rfl)
theorem dX7_getsBy_121 : decode cX7_getsBy 121 = .ok (.iload_n 3, 1) := dk_29 (dk_at dksX7_getsBy_5 5 rfl rfl)
theorem dX7_getsBy_122 : decode cX7_getsBy 122 = .ok (.ishl, 1) := dk_120 (dk_at dksX7_getsBy_5 6 rfl rfl)
theorem dX7_getsBy_123 : decode cX7_getsBy 123 = .ok (.ior, 1) := dk_128 (dk_at dksX7_getsBy_5 7 rfl rfl)
theorem dX7_getsBy_124 : decode cX7_getsBy 124 = .ok (.istore_n 2, 1) := dk_61 (dk_at dksX7_getsBy_5 8 rfl rfl)
theorem dX7_getsBy_125 : decode cX7_getsBy 125 = .ok (.iinc 4 1, 3) := dk_132 4 1 (dk_at dksX7_getsBy_5 9 rfl rfl)
theorem dX7_getsBy_128 : decode cX7_getsBy 128 = .ok (.goto (-120), 3) := dk_167 255 136 (dk_at dksX7_getsBy_5 12 rfl rfl)
theorem dX7_getsBy_131 : decode cX7_getsBy 131 = .ok (.iload_n 3, 1) := dk_29 (dk_at dksX7_getsBy_5 15 rfl rfl)
theorem dX7_getsBy_132 : decode cX7_getsBy 132 = .ok (.bipush 12, 2) := dk_16 12 (dk_at dksX7_getsBy_5 16 rfl rfl)
theorem dX7_getsBy_134 : decode cX7_getsBy 134 = .ok (.if_icmp .ne 8, 3) := dk_160 0 8 (dk_at dksX7_getsBy_5 18 rfl rfl)
theorem dX7_getsBy_137 : decode cX7_getsBy 137 = .ok (.bipush (-2), 2) := dk_16 254 (dk_at dksX7_getsBy_5 21 rfl rfl)
theorem dX7_getsBy_139 : decode cX7_getsBy 139 = .ok (.goto 4, 3) := dk_167 0 4 (dk_at dksX7_getsBy_6 0 rfl rfl)
theorem dX7_getsBy_142 : decode cX7_getsBy 142 = .ok (.iload_n 3, 1) := dk_29 (dk_at dksX7_getsBy_6 3 rfl rfl)
theorem dX7_getsBy_143 : decode cX7_getsBy 143 = .ok (.ireturn, 1) := dk_172 (dk_at dksX7_getsBy_6 4 rfl rfl)
abbrev cX7_stable : ByteArray := prog_21_method_82_code
def yX7_stable : MethodName := ⟨RX7, "stable", "(I)I"⟩
def dkwX7_stable_3 : List UInt8 := [172]
abbrev dktX7_stable_3 : List UInt8 := dkwX7_stable_3 ++ []
def dkwX7_stable_2 : List UInt8 := [42, 180, 0, 84, 29, 46, 29, 164, 0, 7, 4, 167, 0, 4, 3, 96, 61, 132, 3, 1, 167, 255, 229, 28]
abbrev dktX7_stable_2 : List UInt8 := dkwX7_stable_2 ++ dktX7_stable_3
def dkwX7_stable_1 : List UInt8 := [27, 16, 20, 159, 0, 10, 42, 180, 0, 84, 27, 46, 172, 3, 61, 3, 62, 29, 16, 12, 162, 0, 27, 28]
abbrev dktX7_stable_1 : List UInt8 := dkwX7_stable_1 ++ dktX7_stable_2
def dkwX7_stable_0 : List UInt8 := [27, 16, 20, 159, 0, 13, 42, 27, 182, 0, 108, 154, 0, 5, 2, 172, 42, 182, 1, 74, 42, 182, 1, 96]
abbrev dktX7_stable_0 : List UInt8 := dkwX7_stable_0 ++ dktX7_stable_1
theorem dksX7_stable_0 : cX7_stable.data.toList.drop 0 = dktX7_stable_0 := by decide +kernel
theorem dksX7_stable_1 : cX7_stable.data.toList.drop 24 = dktX7_stable_1 := dk_seg dksX7_stable_0 24 rfl rfl
theorem dksX7_stable_2 : cX7_stable.data.toList.drop 48 = dktX7_stable_2 := dk_seg dksX7_stable_1 24 rfl rfl
theorem dksX7_stable_3 : cX7_stable.data.toList.drop 72 = dktX7_stable_3 := dk_seg dksX7_stable_2 24 rfl rfl
theorem dX7_stable_0 : decode cX7_stable 0 = .ok (.iload_n 1, 1) := dk_27 (dk_at dksX7_stable_0 0 rfl rfl)
theorem dX7_stable_1 : decode cX7_stable 1 = .ok (.bipush 20, 2) := dk_16 20 (dk_at dksX7_stable_0 1 rfl rfl)
theorem dX7_stable_3 : decode cX7_stable 3 = .ok (.if_icmp .eq 13, 3) := dk_159 0 13 (dk_at dksX7_stable_0 3 rfl rfl)
theorem dX7_stable_6 : decode cX7_stable 6 = .ok (.aload_n 0, 1) := dk_42 (dk_at dksX7_stable_0 6 rfl rfl)
theorem dX7_stable_7 : decode cX7_stable 7 = .ok (.iload_n 1, 1) := dk_27 (dk_at dksX7_stable_0 7 rfl rfl)
theorem dX7_stable_8 : decode cX7_stable 8 = .ok (.invokevirtual 108, 3) := dk_182 0 108 (dk_at dksX7_stable_0 8 rfl rfl)
theorem dX7_stable_11 : decode cX7_stable 11 = .ok (.ifCond .ne 5, 3) := dk_154 0 5 (dk_at dksX7_stable_0 11 rfl rfl)
theorem dX7_stable_14 : decode cX7_stable 14 = .ok (.iconst (-1), 1) := dk_2 (dk_at dksX7_stable_0 14 rfl rfl)
theorem dX7_stable_15 : decode cX7_stable 15 = .ok (.ireturn, 1) := dk_172 (dk_at dksX7_stable_0 15 rfl rfl)
theorem dX7_stable_16 : decode cX7_stable 16 = .ok (.aload_n 0, 1) := dk_42 (dk_at dksX7_stable_0 16 rfl rfl)
theorem dX7_stable_17 : decode cX7_stable 17 = .ok (.invokevirtual 330, 3) := dk_182 1 74 (dk_at dksX7_stable_0 17 rfl rfl)
theorem dX7_stable_20 : decode cX7_stable 20 = .ok (.aload_n 0, 1) := dk_42 (dk_at dksX7_stable_0 20 rfl rfl)
theorem dX7_stable_21 : decode cX7_stable 21 = .ok (.invokevirtual 352, 3) := dk_182 1 96 (dk_at dksX7_stable_0 21 rfl rfl)
theorem dX7_stable_24 : decode cX7_stable 24 = .ok (.iload_n 1, 1) := dk_27 (dk_at dksX7_stable_1 0 rfl rfl)
theorem dX7_stable_25 : decode cX7_stable 25 = .ok (.bipush 20, 2) := dk_16 20 (dk_at dksX7_stable_1 1 rfl rfl)
theorem dX7_stable_27 : decode cX7_stable 27 = .ok (.if_icmp .eq 10, 3) := dk_159 0 10 (dk_at dksX7_stable_1 3 rfl rfl)
theorem dX7_stable_30 : decode cX7_stable 30 = .ok (.aload_n 0, 1) := dk_42 (dk_at dksX7_stable_1 6 rfl rfl)
theorem dX7_stable_31 : decode cX7_stable 31 = .ok (.getfield 84, 3) := dk_180 0 84 (dk_at dksX7_stable_1 7 rfl rfl)
theorem dX7_stable_34 : decode cX7_stable 34 = .ok (.iload_n 1, 1) := dk_27 (dk_at dksX7_stable_1 10 rfl rfl)
theorem dX7_stable_35 : decode cX7_stable 35 = .ok (.iaload, 1) := dk_46 (dk_at dksX7_stable_1 11 rfl rfl)
theorem dX7_stable_36 : decode cX7_stable 36 = .ok (.ireturn, 1) := dk_172 (dk_at dksX7_stable_1 12 rfl rfl)
theorem dX7_stable_37 : decode cX7_stable 37 = .ok (.iconst 0, 1) := dk_3 (dk_at dksX7_stable_1 13 rfl rfl)
theorem dX7_stable_38 : decode cX7_stable 38 = .ok (.istore_n 2, 1) := dk_61 (dk_at dksX7_stable_1 14 rfl rfl)
theorem dX7_stable_39 : decode cX7_stable 39 = .ok (.iconst 0, 1) := dk_3 (dk_at dksX7_stable_1 15 rfl rfl)
theorem dX7_stable_40 : decode cX7_stable 40 = .ok (.istore_n 3, 1) := dk_62 (dk_at dksX7_stable_1 16 rfl rfl)
theorem dX7_stable_41 : decode cX7_stable 41 = .ok (.iload_n 3, 1) := dk_29 (dk_at dksX7_stable_1 17 rfl rfl)
theorem dX7_stable_42 : decode cX7_stable 42 = .ok (.bipush 12, 2) := dk_16 12 (dk_at dksX7_stable_1 18 rfl rfl)
theorem dX7_stable_44 : decode cX7_stable 44 = .ok (.if_icmp .ge 27, 3) := dk_162 0 27 (dk_at dksX7_stable_1 20 rfl rfl)
theorem dX7_stable_47 : decode cX7_stable 47 = .ok (.iload_n 2, 1) := dk_28 (dk_at dksX7_stable_1 23 rfl rfl)
theorem dX7_stable_48 : decode cX7_stable 48 = .ok (.aload_n 0, 1) := dk_42 (dk_at dksX7_stable_2 0 rfl rfl)
theorem dX7_stable_49 : decode cX7_stable 49 = .ok (.getfield 84, 3) := dk_180 0 84 (dk_at dksX7_stable_2 1 rfl rfl)
theorem dX7_stable_52 : decode cX7_stable 52 = .ok (.iload_n 3, 1) := dk_29 (dk_at dksX7_stable_2 4 rfl rfl)
theorem dX7_stable_53 : decode cX7_stable 53 = .ok (.iaload, 1) := dk_46 (dk_at dksX7_stable_2 5 rfl rfl)
theorem dX7_stable_54 : decode cX7_stable 54 = .ok (.iload_n 3, 1) := dk_29 (dk_at dksX7_stable_2 6 rfl rfl)
theorem dX7_stable_55 : decode cX7_stable 55 = .ok (.if_icmp .le 7, 3) := dk_164 0 7 (dk_at dksX7_stable_2 7 rfl rfl)
theorem dX7_stable_58 : decode cX7_stable 58 = .ok (.iconst 1, 1) := dk_4 (dk_at dksX7_stable_2 10 rfl rfl)
theorem dX7_stable_59 : decode cX7_stable 59 = .ok (.goto 4, 3) := dk_167 0 4 (dk_at dksX7_stable_2 11 rfl rfl)
theorem dX7_stable_62 : decode cX7_stable 62 = .ok (.iconst 0, 1) := dk_3 (dk_at dksX7_stable_2 14 rfl rfl)
theorem dX7_stable_63 : decode cX7_stable 63 = .ok (.iadd, 1) := dk_96 (dk_at dksX7_stable_2 15 rfl rfl)
theorem dX7_stable_64 : decode cX7_stable 64 = .ok (.istore_n 2, 1) := dk_61 (dk_at dksX7_stable_2 16 rfl rfl)
theorem dX7_stable_65 : decode cX7_stable 65 = .ok (.iinc 3 1, 3) := dk_132 3 1 (dk_at dksX7_stable_2 17 rfl rfl)
theorem dX7_stable_68 : decode cX7_stable 68 = .ok (.goto (-27), 3) := dk_167 255 229 (dk_at dksX7_stable_2 20 rfl rfl)
theorem dX7_stable_71 : decode cX7_stable 71 = .ok (.iload_n 2, 1) := dk_28 (dk_at dksX7_stable_2 23 rfl rfl)
theorem dX7_stable_72 : decode cX7_stable 72 = .ok (.ireturn, 1) := dk_172 (dk_at dksX7_stable_3 0 rfl rfl)
abbrev cX7_laysStable : ByteArray := prog_21_method_81_code
def yX7_laysStable : MethodName := ⟨RX7, "laysStable", "()V"⟩
def dkwX7_laysStable_6 : List UInt8 := [79, 42, 180, 0, 84, 29, 28, 79, 132, 2, 1, 167, 255, 142, 167, 255, 131, 177]
abbrev dktX7_laysStable_6 : List UInt8 := dkwX7_laysStable_6 ++ []
def dkwX7_laysStable_5 : List UInt8 := [16, 254, 159, 0, 16, 42, 180, 0, 84, 42, 180, 0, 84, 29, 46, 16, 254, 79, 42, 180, 0, 84, 28, 29]
abbrev dktX7_laysStable_5 : List UInt8 := dkwX7_laysStable_5 ++ dktX7_laysStable_6
def dkwX7_laysStable_4 : List UInt8 := [46, 4, 29, 120, 128, 79, 42, 29, 28, 182, 1, 93, 154, 0, 6, 167, 0, 41, 42, 180, 0, 84, 29, 46]
abbrev dktX7_laysStable_4 : List UInt8 := dkwX7_laysStable_4 ++ dktX7_laysStable_5
def dkwX7_laysStable_3 : List UInt8 := [182, 1, 90, 62, 29, 2, 160, 0, 6, 167, 0, 71, 4, 60, 42, 180, 0, 81, 28, 42, 180, 0, 81, 28]
abbrev dktX7_laysStable_3 : List UInt8 := dkwX7_laysStable_3 ++ dktX7_laysStable_4
def dkwX7_laysStable_2 : List UInt8 := [3, 182, 1, 78, 153, 0, 99, 42, 180, 0, 84, 28, 46, 16, 254, 159, 0, 6, 167, 0, 85, 42, 28]
abbrev dktX7_laysStable_2 : List UInt8 := dkwX7_laysStable_2 ++ dktX7_laysStable_3
def dkwX7_laysStable_1 : List UInt8 := [132, 1, 1, 167, 255, 232, 4, 60, 27, 153, 0, 127, 3, 60, 3, 61, 28, 16, 12, 162, 0, 114, 42, 28]
abbrev dktX7_laysStable_1 : List UInt8 := dkwX7_laysStable_1 ++ dktX7_laysStable_2
def dkwX7_laysStable_0 : List UInt8 := [3, 60, 27, 16, 12, 162, 0, 24, 42, 180, 0, 81, 27, 3, 79, 42, 180, 0, 84, 27, 16, 254, 79]
abbrev dktX7_laysStable_0 : List UInt8 := dkwX7_laysStable_0 ++ dktX7_laysStable_1
theorem dksX7_laysStable_0 : cX7_laysStable.data.toList.drop 0 = dktX7_laysStable_0 := by decide +kernel
theorem dksX7_laysStable_1 : cX7_laysStable.data.toList.drop 23 = dktX7_laysStable_1 := dk_seg dksX7_laysStable_0 23 rfl rfl
theorem dksX7_laysStable_2 : cX7_laysStable.data.toList.drop 47 = dktX7_laysStable_2 := dk_seg dksX7_laysStable_1 24 rfl rfl
theorem dksX7_laysStable_3 : cX7_laysStable.data.toList.drop 70 = dktX7_laysStable_3 := dk_seg dksX7_laysStable_2 23 rfl rfl
theorem dksX7_laysStable_4 : cX7_laysStable.data.toList.drop 94 = dktX7_laysStable_4 := dk_seg dksX7_laysStable_3 24 rfl rfl
theorem dksX7_laysStable_5 : cX7_laysStable.data.toList.drop 118 = dktX7_laysStable_5 := dk_seg dksX7_laysStable_4 24 rfl rfl
theorem dksX7_laysStable_6 : cX7_laysStable.data.toList.drop 142 = dktX7_laysStable_6 := dk_seg dksX7_laysStable_5 24 rfl rfl
theorem dX7_laysStable_0 : decode cX7_laysStable 0 = .ok (.iconst 0, 1) := dk_3 (dk_at dksX7_laysStable_0 0 rfl rfl)
theorem dX7_laysStable_1 : decode cX7_laysStable 1 = .ok (.istore_n 1, 1) := dk_60 (dk_at dksX7_laysStable_0 1 rfl rfl)
theorem dX7_laysStable_2 : decode cX7_laysStable 2 = .ok (.iload_n 1, 1) := dk_27 (dk_at dksX7_laysStable_0 2 rfl rfl)
theorem dX7_laysStable_3 : decode cX7_laysStable 3 = .ok (.bipush 12, 2) := dk_16 12 (dk_at dksX7_laysStable_0 3 rfl rfl)
theorem dX7_laysStable_5 : decode cX7_laysStable 5 = .ok (.if_icmp .ge 24, 3) := dk_162 0 24 (dk_at dksX7_laysStable_0 5 rfl rfl)
theorem dX7_laysStable_8 : decode cX7_laysStable 8 = .ok (.aload_n 0, 1) := dk_42 (dk_at dksX7_laysStable_0 8 rfl rfl)
theorem dX7_laysStable_9 : decode cX7_laysStable 9 = .ok (.getfield 81, 3) := dk_180 0 81 (dk_at dksX7_laysStable_0 9 rfl rfl)
theorem dX7_laysStable_12 : decode cX7_laysStable 12 = .ok (.iload_n 1, 1) := dk_27 (dk_at dksX7_laysStable_0 12 rfl rfl)
theorem dX7_laysStable_13 : decode cX7_laysStable 13 = .ok (.iconst 0, 1) := dk_3 (dk_at dksX7_laysStable_0 13 rfl rfl)
theorem dX7_laysStable_14 : decode cX7_laysStable 14 = .ok (.iastore, 1) := dk_79 (dk_at dksX7_laysStable_0 14 rfl rfl)
theorem dX7_laysStable_15 : decode cX7_laysStable 15 = .ok (.aload_n 0, 1) := dk_42 (dk_at dksX7_laysStable_0 15 rfl rfl)
theorem dX7_laysStable_16 : decode cX7_laysStable 16 = .ok (.getfield 84, 3) := dk_180 0 84 (dk_at dksX7_laysStable_0 16 rfl rfl)
theorem dX7_laysStable_19 : decode cX7_laysStable 19 = .ok (.iload_n 1, 1) := dk_27 (dk_at dksX7_laysStable_0 19 rfl rfl)
theorem dX7_laysStable_20 : decode cX7_laysStable 20 = .ok (.bipush (-2), 2) := dk_16 254 (dk_at dksX7_laysStable_0 20 rfl rfl)
theorem dX7_laysStable_22 : decode cX7_laysStable 22 = .ok (.iastore, 1) := dk_79 (dk_at dksX7_laysStable_0 22 rfl rfl)
theorem dX7_laysStable_23 : decode cX7_laysStable 23 = .ok (.iinc 1 1, 3) := dk_132 1 1 (dk_at dksX7_laysStable_1 0 rfl rfl)
theorem dX7_laysStable_26 : decode cX7_laysStable 26 = .ok (.goto (-24), 3) := dk_167 255 232 (dk_at dksX7_laysStable_1 3 rfl rfl)
theorem dX7_laysStable_29 : decode cX7_laysStable 29 = .ok (.iconst 1, 1) := dk_4 (dk_at dksX7_laysStable_1 6 rfl rfl)
theorem dX7_laysStable_30 : decode cX7_laysStable 30 = .ok (.istore_n 1, 1) := dk_60 (dk_at dksX7_laysStable_1 7 rfl rfl)
theorem dX7_laysStable_31 : decode cX7_laysStable 31 = .ok (.iload_n 1, 1) := dk_27 (dk_at dksX7_laysStable_1 8 rfl rfl)
theorem dX7_laysStable_32 : decode cX7_laysStable 32 = .ok (.ifCond .eq 127, 3) := dk_153 0 127 (dk_at dksX7_laysStable_1 9 rfl rfl)
theorem dX7_laysStable_35 : decode cX7_laysStable 35 = .ok (.iconst 0, 1) := dk_3 (dk_at dksX7_laysStable_1 12 rfl rfl)
theorem dX7_laysStable_36 : decode cX7_laysStable 36 = .ok (.istore_n 1, 1) := dk_60 (dk_at dksX7_laysStable_1 13 rfl rfl)
theorem dX7_laysStable_37 : decode cX7_laysStable 37 = .ok (.iconst 0, 1) := dk_3 (dk_at dksX7_laysStable_1 14 rfl rfl)
theorem dX7_laysStable_38 : decode cX7_laysStable 38 = .ok (.istore_n 2, 1) := dk_61 (dk_at dksX7_laysStable_1 15 rfl rfl)
theorem dX7_laysStable_39 : decode cX7_laysStable 39 = .ok (.iload_n 2, 1) := dk_28 (dk_at dksX7_laysStable_1 16 rfl rfl)
theorem dX7_laysStable_40 : decode cX7_laysStable 40 = .ok (.bipush 12, 2) := dk_16 12 (dk_at dksX7_laysStable_1 17 rfl rfl)
theorem dX7_laysStable_42 : decode cX7_laysStable 42 = .ok (.if_icmp .ge 114, 3) := dk_162 0 114 (dk_at dksX7_laysStable_1 19 rfl rfl)
theorem dX7_laysStable_45 : decode cX7_laysStable 45 = .ok (.aload_n 0, 1) := dk_42 (dk_at dksX7_laysStable_1 22 rfl rfl)
theorem dX7_laysStable_46 : decode cX7_laysStable 46 = .ok (.iload_n 2, 1) := dk_28 (dk_at dksX7_laysStable_1 23 rfl rfl)
theorem dX7_laysStable_47 : decode cX7_laysStable 47 = .ok (.iconst 0, 1) := dk_3 (dk_at dksX7_laysStable_2 0 rfl rfl)
theorem dX7_laysStable_48 : decode cX7_laysStable 48 = .ok (.invokevirtual 334, 3) := dk_182 1 78 (dk_at dksX7_laysStable_2 1 rfl rfl)
theorem dX7_laysStable_51 : decode cX7_laysStable 51 = .ok (.ifCond .eq 99, 3) := dk_153 0 99 (dk_at dksX7_laysStable_2 4 rfl rfl)
theorem dX7_laysStable_54 : decode cX7_laysStable 54 = .ok (.aload_n 0, 1) := dk_42 (dk_at dksX7_laysStable_2 7 rfl rfl)
theorem dX7_laysStable_55 : decode cX7_laysStable 55 = .ok (.getfield 84, 3) := dk_180 0 84 (dk_at dksX7_laysStable_2 8 rfl rfl)
theorem dX7_laysStable_58 : decode cX7_laysStable 58 = .ok (.iload_n 2, 1) := dk_28 (dk_at dksX7_laysStable_2 11 rfl rfl)
theorem dX7_laysStable_59 : decode cX7_laysStable 59 = .ok (.iaload, 1) := dk_46 (dk_at dksX7_laysStable_2 12 rfl rfl)
theorem dX7_laysStable_60 : decode cX7_laysStable 60 = .ok (.bipush (-2), 2) := dk_16 254 (dk_at dksX7_laysStable_2 13 rfl rfl)
theorem dX7_laysStable_62 : decode cX7_laysStable 62 = .ok (.if_icmp .eq 6, 3) := dk_159 0 6 (dk_at dksX7_laysStable_2 15 rfl rfl)
theorem dX7_laysStable_65 : decode cX7_laysStable 65 = .ok (.goto 85, 3) := dk_167 0 85 (dk_at dksX7_laysStable_2 18 rfl rfl)
theorem dX7_laysStable_68 : decode cX7_laysStable 68 = .ok (.aload_n 0, 1) := dk_42 (dk_at dksX7_laysStable_2 21 rfl rfl)
theorem dX7_laysStable_69 : decode cX7_laysStable 69 = .ok (.iload_n 2, 1) := dk_28 (dk_at dksX7_laysStable_2 22 rfl rfl)
theorem dX7_laysStable_70 : decode cX7_laysStable 70 = .ok (.invokevirtual 346, 3) := dk_182 1 90 (dk_at dksX7_laysStable_3 0 rfl rfl)
theorem dX7_laysStable_73 : decode cX7_laysStable 73 = .ok (.istore_n 3, 1) := dk_62 (dk_at dksX7_laysStable_3 3 rfl rfl)
theorem dX7_laysStable_74 : decode cX7_laysStable 74 = .ok (.iload_n 3, 1) := dk_29 (dk_at dksX7_laysStable_3 4 rfl rfl)
theorem dX7_laysStable_75 : decode cX7_laysStable 75 = .ok (.iconst (-1), 1) := dk_2 (dk_at dksX7_laysStable_3 5 rfl rfl)
theorem dX7_laysStable_76 : decode cX7_laysStable 76 = .ok (.if_icmp .ne 6, 3) := dk_160 0 6 (dk_at dksX7_laysStable_3 6 rfl rfl)
theorem dX7_laysStable_79 : decode cX7_laysStable 79 = .ok (.goto 71, 3) := dk_167 0 71 (dk_at dksX7_laysStable_3 9 rfl rfl)
theorem dX7_laysStable_82 : decode cX7_laysStable 82 = .ok (.iconst 1, 1) := dk_4 (dk_at dksX7_laysStable_3 12 rfl rfl)
theorem dX7_laysStable_83 : decode cX7_laysStable 83 = .ok (.istore_n 1, 1) := dk_60 (dk_at dksX7_laysStable_3 13 rfl rfl)
theorem dX7_laysStable_84 : decode cX7_laysStable 84 = .ok (.aload_n 0, 1) := dk_42 (dk_at dksX7_laysStable_3 14 rfl rfl)
theorem dX7_laysStable_85 : decode cX7_laysStable 85 = .ok (.getfield 81, 3) := dk_180 0 81 (dk_at dksX7_laysStable_3 15 rfl rfl)
theorem dX7_laysStable_88 : decode cX7_laysStable 88 = .ok (.iload_n 2, 1) := dk_28 (dk_at dksX7_laysStable_3 18 rfl rfl)
theorem dX7_laysStable_89 : decode cX7_laysStable 89 = .ok (.aload_n 0, 1) := dk_42 (dk_at dksX7_laysStable_3 19 rfl rfl)
theorem dX7_laysStable_90 : decode cX7_laysStable 90 = .ok (.getfield 81, 3) := dk_180 0 81 (dk_at dksX7_laysStable_3 20 rfl rfl)
theorem dX7_laysStable_93 : decode cX7_laysStable 93 = .ok (.iload_n 2, 1) := dk_28 (dk_at dksX7_laysStable_3 23 rfl rfl)
theorem dX7_laysStable_94 : decode cX7_laysStable 94 = .ok (.iaload, 1) := dk_46 (dk_at dksX7_laysStable_4 0 rfl rfl)
theorem dX7_laysStable_95 : decode cX7_laysStable 95 = .ok (.iconst 1, 1) := dk_4 (dk_at dksX7_laysStable_4 1 rfl rfl)
theorem dX7_laysStable_96 : decode cX7_laysStable 96 = .ok (.iload_n 3, 1) := dk_29 (dk_at dksX7_laysStable_4 2 rfl rfl)
theorem dX7_laysStable_97 : decode cX7_laysStable 97 = .ok (.ishl, 1) := dk_120 (dk_at dksX7_laysStable_4 3 rfl rfl)
theorem dX7_laysStable_98 : decode cX7_laysStable 98 = .ok (.ior, 1) := dk_128 (dk_at dksX7_laysStable_4 4 rfl rfl)
theorem dX7_laysStable_99 : decode cX7_laysStable 99 = .ok (.iastore, 1) := dk_79 (dk_at dksX7_laysStable_4 5 rfl rfl)
theorem dX7_laysStable_100 : decode cX7_laysStable 100 = .ok (.aload_n 0, 1) := dk_42 (dk_at dksX7_laysStable_4 6 rfl rfl)
theorem dX7_laysStable_101 : decode cX7_laysStable 101 = .ok (.iload_n 3, 1) := dk_29 (dk_at dksX7_laysStable_4 7 rfl rfl)
theorem dX7_laysStable_102 : decode cX7_laysStable 102 = .ok (.iload_n 2, 1) := dk_28 (dk_at dksX7_laysStable_4 8 rfl rfl)
theorem dX7_laysStable_103 : decode cX7_laysStable 103 = .ok (.invokevirtual 349, 3) := dk_182 1 93 (dk_at dksX7_laysStable_4 9 rfl rfl)
theorem dX7_laysStable_106 : decode cX7_laysStable 106 = .ok (.ifCond .ne 6, 3) := dk_154 0 6 (dk_at dksX7_laysStable_4 12 rfl rfl)
theorem dX7_laysStable_109 : decode cX7_laysStable 109 = .ok (.goto 41, 3) := dk_167 0 41 (dk_at dksX7_laysStable_4 15 rfl rfl)
theorem dX7_laysStable_112 : decode cX7_laysStable 112 = .ok (.aload_n 0, 1) := dk_42 (dk_at dksX7_laysStable_4 18 rfl rfl)
theorem dX7_laysStable_113 : decode cX7_laysStable 113 = .ok (.getfield 84, 3) := dk_180 0 84 (dk_at dksX7_laysStable_4 19 rfl rfl)
theorem dX7_laysStable_116 : decode cX7_laysStable 116 = .ok (.iload_n 3, 1) := dk_29 (dk_at dksX7_laysStable_4 22 rfl rfl)
theorem dX7_laysStable_117 : decode cX7_laysStable 117 = .ok (.iaload, 1) := dk_46 (dk_at dksX7_laysStable_4 23 rfl rfl)
theorem dX7_laysStable_118 : decode cX7_laysStable 118 = .ok (.bipush (-2), 2) := dk_16 254 (dk_at dksX7_laysStable_5 0 rfl rfl)
theorem dX7_laysStable_120 : decode cX7_laysStable 120 = .ok (.if_icmp .eq 16, 3) := dk_159 0 16 (dk_at dksX7_laysStable_5 2 rfl rfl)
theorem dX7_laysStable_123 : decode cX7_laysStable 123 = .ok (.aload_n 0, 1) := dk_42 (dk_at dksX7_laysStable_5 5 rfl rfl)
theorem dX7_laysStable_124 : decode cX7_laysStable 124 = .ok (.getfield 84, 3) := dk_180 0 84 (dk_at dksX7_laysStable_5 6 rfl rfl)
theorem dX7_laysStable_127 : decode cX7_laysStable 127 = .ok (.aload_n 0, 1) := dk_42 (dk_at dksX7_laysStable_5 9 rfl rfl)
theorem dX7_laysStable_128 : decode cX7_laysStable 128 = .ok (.getfield 84, 3) := dk_180 0 84 (dk_at dksX7_laysStable_5 10 rfl rfl)
theorem dX7_laysStable_131 : decode cX7_laysStable 131 = .ok (.iload_n 3, 1) := dk_29 (dk_at dksX7_laysStable_5 13 rfl rfl)
theorem dX7_laysStable_132 : decode cX7_laysStable 132 = .ok (.iaload, 1) := dk_46 (dk_at dksX7_laysStable_5 14 rfl rfl)
theorem dX7_laysStable_133 : decode cX7_laysStable 133 = .ok (.bipush (-2), 2) := dk_16 254 (dk_at dksX7_laysStable_5 15 rfl rfl)
theorem dX7_laysStable_135 : decode cX7_laysStable 135 = .ok (.iastore, 1) := dk_79 (dk_at dksX7_laysStable_5 17 rfl rfl)
theorem dX7_laysStable_136 : decode cX7_laysStable 136 = .ok (.aload_n 0, 1) := dk_42 (dk_at dksX7_laysStable_5 18 rfl rfl)
theorem dX7_laysStable_137 : decode cX7_laysStable 137 = .ok (.getfield 84, 3) := dk_180 0 84 (dk_at dksX7_laysStable_5 19 rfl rfl)
theorem dX7_laysStable_140 : decode cX7_laysStable 140 = .ok (.iload_n 2, 1) := dk_28 (dk_at dksX7_laysStable_5 22 rfl rfl)
theorem dX7_laysStable_141 : decode cX7_laysStable 141 = .ok (.iload_n 3, 1) := dk_29 (dk_at dksX7_laysStable_5 23 rfl rfl)
theorem dX7_laysStable_142 : decode cX7_laysStable 142 = .ok (.iastore, 1) := dk_79 (dk_at dksX7_laysStable_6 0 rfl rfl)
theorem dX7_laysStable_143 : decode cX7_laysStable 143 = .ok (.aload_n 0, 1) := dk_42 (dk_at dksX7_laysStable_6 1 rfl rfl)
theorem dX7_laysStable_144 : decode cX7_laysStable 144 = .ok (.getfield 84, 3) := dk_180 0 84 (dk_at dksX7_laysStable_6 2 rfl rfl)
theorem dX7_laysStable_147 : decode cX7_laysStable 147 = .ok (.iload_n 3, 1) := dk_29 (dk_at dksX7_laysStable_6 5 rfl rfl)
theorem dX7_laysStable_148 : decode cX7_laysStable 148 = .ok (.iload_n 2, 1) := dk_28 (dk_at dksX7_laysStable_6 6 rfl rfl)
theorem dX7_laysStable_149 : decode cX7_laysStable 149 = .ok (.iastore, 1) := dk_79 (dk_at dksX7_laysStable_6 7 rfl rfl)
theorem dX7_laysStable_150 : decode cX7_laysStable 150 = .ok (.iinc 2 1, 3) := dk_132 2 1 (dk_at dksX7_laysStable_6 8 rfl rfl)
theorem dX7_laysStable_153 : decode cX7_laysStable 153 = .ok (.goto (-114), 3) := dk_167 255 142 (dk_at dksX7_laysStable_6 11 rfl rfl)
theorem dX7_laysStable_156 : decode cX7_laysStable 156 = .ok (.goto (-125), 3) := dk_167 255 131 (dk_at dksX7_laysStable_6 14 rfl rfl)
theorem dX7_laysStable_159 : decode cX7_laysStable 159 = .ok (.return_, 1) := dk_177 (dk_at dksX7_laysStable_6 17 rfl rfl)
abbrev cX7_nextAsked : ByteArray := prog_21_method_79_code
def yX7_nextAsked : MethodName := ⟨RX7, "nextAsked", "(I)I"⟩
def dkwX7_nextAsked_4 : List UInt8 := [29, 61, 132, 3, 1, 167, 255, 160, 28, 172]
abbrev dktX7_nextAsked_4 : List UInt8 := dkwX7_nextAsked_4 ++ []
def dkwX7_nextAsked_3 : List UInt8 := [180, 0, 74, 16, 12, 27, 104, 29, 96, 46, 42, 180, 0, 74, 16, 12, 27, 104, 28, 96, 46, 164, 0, 5]
abbrev dktX7_nextAsked_3 : List UInt8 := dkwX7_nextAsked_3 ++ dktX7_nextAsked_4
def dkwX7_nextAsked_2 : List UInt8 := [42, 180, 0, 74, 16, 12, 27, 104, 29, 96, 46, 154, 0, 6, 167, 0, 35, 28, 2, 159, 0, 28, 42]
abbrev dktX7_nextAsked_2 : List UInt8 := dkwX7_nextAsked_2 ++ dktX7_nextAsked_3
def dkwX7_nextAsked_1 : List UInt8 := [180, 0, 7, 3, 29, 96, 46, 4, 160, 0, 65, 42, 180, 0, 81, 27, 46, 29, 184, 0, 101, 154, 0, 52]
abbrev dktX7_nextAsked_1 : List UInt8 := dkwX7_nextAsked_1 ++ dktX7_nextAsked_2
def dkwX7_nextAsked_0 : List UInt8 := [2, 61, 3, 62, 29, 16, 12, 162, 0, 96, 42, 180, 0, 68, 27, 46, 29, 184, 0, 101, 153, 0, 77, 42]
abbrev dktX7_nextAsked_0 : List UInt8 := dkwX7_nextAsked_0 ++ dktX7_nextAsked_1
theorem dksX7_nextAsked_0 : cX7_nextAsked.data.toList.drop 0 = dktX7_nextAsked_0 := by decide +kernel
theorem dksX7_nextAsked_1 : cX7_nextAsked.data.toList.drop 24 = dktX7_nextAsked_1 := dk_seg dksX7_nextAsked_0 24 rfl rfl
theorem dksX7_nextAsked_2 : cX7_nextAsked.data.toList.drop 48 = dktX7_nextAsked_2 := dk_seg dksX7_nextAsked_1 24 rfl rfl
theorem dksX7_nextAsked_3 : cX7_nextAsked.data.toList.drop 71 = dktX7_nextAsked_3 := dk_seg dksX7_nextAsked_2 23 rfl rfl
theorem dksX7_nextAsked_4 : cX7_nextAsked.data.toList.drop 95 = dktX7_nextAsked_4 := dk_seg dksX7_nextAsked_3 24 rfl rfl
theorem dX7_nextAsked_0 : decode cX7_nextAsked 0 = .ok (.iconst (-1), 1) := dk_2 (dk_at dksX7_nextAsked_0 0 rfl rfl)
theorem dX7_nextAsked_1 : decode cX7_nextAsked 1 = .ok (.istore_n 2, 1) := dk_61 (dk_at dksX7_nextAsked_0 1 rfl rfl)
theorem dX7_nextAsked_2 : decode cX7_nextAsked 2 = .ok (.iconst 0, 1) := dk_3 (dk_at dksX7_nextAsked_0 2 rfl rfl)
theorem dX7_nextAsked_3 : decode cX7_nextAsked 3 = .ok (.istore_n 3, 1) := dk_62 (dk_at dksX7_nextAsked_0 3 rfl rfl)
theorem dX7_nextAsked_4 : decode cX7_nextAsked 4 = .ok (.iload_n 3, 1) := dk_29 (dk_at dksX7_nextAsked_0 4 rfl rfl)
theorem dX7_nextAsked_5 : decode cX7_nextAsked 5 = .ok (.bipush 12, 2) := dk_16 12 (dk_at dksX7_nextAsked_0 5 rfl rfl)
theorem dX7_nextAsked_7 : decode cX7_nextAsked 7 = .ok (.if_icmp .ge 96, 3) := dk_162 0 96 (dk_at dksX7_nextAsked_0 7 rfl rfl)
theorem dX7_nextAsked_10 : decode cX7_nextAsked 10 = .ok (.aload_n 0, 1) := dk_42 (dk_at dksX7_nextAsked_0 10 rfl rfl)
theorem dX7_nextAsked_11 : decode cX7_nextAsked 11 = .ok (.getfield 68, 3) := dk_180 0 68 (dk_at dksX7_nextAsked_0 11 rfl rfl)
theorem dX7_nextAsked_14 : decode cX7_nextAsked 14 = .ok (.iload_n 1, 1) := dk_27 (dk_at dksX7_nextAsked_0 14 rfl rfl)
theorem dX7_nextAsked_15 : decode cX7_nextAsked 15 = .ok (.iaload, 1) := dk_46 (dk_at dksX7_nextAsked_0 15 rfl rfl)
theorem dX7_nextAsked_16 : decode cX7_nextAsked 16 = .ok (.iload_n 3, 1) := dk_29 (dk_at dksX7_nextAsked_0 16 rfl rfl)
theorem dX7_nextAsked_17 : decode cX7_nextAsked 17 = .ok (.invokestatic 101, 3) := dk_184 0 101 (dk_at dksX7_nextAsked_0 17 rfl rfl)
theorem dX7_nextAsked_20 : decode cX7_nextAsked 20 = .ok (.ifCond .eq 77, 3) := dk_153 0 77 (dk_at dksX7_nextAsked_0 20 rfl rfl)
theorem dX7_nextAsked_23 : decode cX7_nextAsked 23 = .ok (.aload_n 0, 1) := dk_42 (dk_at dksX7_nextAsked_0 23 rfl rfl)
theorem dX7_nextAsked_24 : decode cX7_nextAsked 24 = .ok (.getfield 7, 3) := dk_180 0 7 (dk_at dksX7_nextAsked_1 0 rfl rfl)
theorem dX7_nextAsked_27 : decode cX7_nextAsked 27 = .ok (.iconst 0, 1) := dk_3 (dk_at dksX7_nextAsked_1 3 rfl rfl)
theorem dX7_nextAsked_28 : decode cX7_nextAsked 28 = .ok (.iload_n 3, 1) := dk_29 (dk_at dksX7_nextAsked_1 4 rfl rfl)
theorem dX7_nextAsked_29 : decode cX7_nextAsked 29 = .ok (.iadd, 1) := dk_96 (dk_at dksX7_nextAsked_1 5 rfl rfl)
theorem dX7_nextAsked_30 : decode cX7_nextAsked 30 = .ok (.iaload, 1) := dk_46 (dk_at dksX7_nextAsked_1 6 rfl rfl)
theorem dX7_nextAsked_31 : decode cX7_nextAsked 31 = .ok (.iconst 1, 1) := dk_4 (dk_at dksX7_nextAsked_1 7 rfl rfl)
theorem dX7_nextAsked_32 : decode cX7_nextAsked 32 = .ok (.if_icmp .ne 65, 3) := dk_160 0 65 (dk_at dksX7_nextAsked_1 8 rfl rfl)
theorem dX7_nextAsked_35 : decode cX7_nextAsked 35 = .ok (.aload_n 0, 1) := dk_42 (dk_at dksX7_nextAsked_1 11 rfl rfl)
theorem dX7_nextAsked_36 : decode cX7_nextAsked 36 = .ok (.getfield 81, 3) := dk_180 0 81 (dk_at dksX7_nextAsked_1 12 rfl rfl)
theorem dX7_nextAsked_39 : decode cX7_nextAsked 39 = .ok (.iload_n 1, 1) := dk_27 (dk_at dksX7_nextAsked_1 15 rfl rfl)
theorem dX7_nextAsked_40 : decode cX7_nextAsked 40 = .ok (.iaload, 1) := dk_46 (dk_at dksX7_nextAsked_1 16 rfl rfl)
theorem dX7_nextAsked_41 : decode cX7_nextAsked 41 = .ok (.iload_n 3, 1) := dk_29 (dk_at dksX7_nextAsked_1 17 rfl rfl)
theorem dX7_nextAsked_42 : decode cX7_nextAsked 42 = .ok (.invokestatic 101, 3) := dk_184 0 101 (dk_at dksX7_nextAsked_1 18 rfl rfl)
theorem dX7_nextAsked_45 : decode cX7_nextAsked 45 = .ok (.ifCond .ne 52, 3) := dk_154 0 52 (dk_at dksX7_nextAsked_1 21 rfl rfl)
theorem dX7_nextAsked_48 : decode cX7_nextAsked 48 = .ok (.aload_n 0, 1) := dk_42 (dk_at dksX7_nextAsked_2 0 rfl rfl)
theorem dX7_nextAsked_49 : decode cX7_nextAsked 49 = .ok (.getfield 74, 3) := dk_180 0 74 (dk_at dksX7_nextAsked_2 1 rfl rfl)
theorem dX7_nextAsked_52 : decode cX7_nextAsked 52 = .ok (.bipush 12, 2) := dk_16 12 (dk_at dksX7_nextAsked_2 4 rfl rfl)
theorem dX7_nextAsked_54 : decode cX7_nextAsked 54 = .ok (.iload_n 1, 1) := dk_27 (dk_at dksX7_nextAsked_2 6 rfl rfl)
theorem dX7_nextAsked_55 : decode cX7_nextAsked 55 = .ok (.imul, 1) := dk_104 (dk_at dksX7_nextAsked_2 7 rfl rfl)
theorem dX7_nextAsked_56 : decode cX7_nextAsked 56 = .ok (.iload_n 3, 1) := dk_29 (dk_at dksX7_nextAsked_2 8 rfl rfl)
theorem dX7_nextAsked_57 : decode cX7_nextAsked 57 = .ok (.iadd, 1) := dk_96 (dk_at dksX7_nextAsked_2 9 rfl rfl)
theorem dX7_nextAsked_58 : decode cX7_nextAsked 58 = .ok (.iaload, 1) := dk_46 (dk_at dksX7_nextAsked_2 10 rfl rfl)
theorem dX7_nextAsked_59 : decode cX7_nextAsked 59 = .ok (.ifCond .ne 6, 3) := dk_154 0 6 (dk_at dksX7_nextAsked_2 11 rfl rfl)
theorem dX7_nextAsked_62 : decode cX7_nextAsked 62 = .ok (.goto 35, 3) := dk_167 0 35 (dk_at dksX7_nextAsked_2 14 rfl rfl)
theorem dX7_nextAsked_65 : decode cX7_nextAsked 65 = .ok (.iload_n 2, 1) := dk_28 (dk_at dksX7_nextAsked_2 17 rfl rfl)
theorem dX7_nextAsked_66 : decode cX7_nextAsked 66 = .ok (.iconst (-1), 1) := dk_2 (dk_at dksX7_nextAsked_2 18 rfl rfl)
theorem dX7_nextAsked_67 : decode cX7_nextAsked 67 = .ok (.if_icmp .eq 28, 3) := dk_159 0 28 (dk_at dksX7_nextAsked_2 19 rfl rfl)
theorem dX7_nextAsked_70 : decode cX7_nextAsked 70 = .ok (.aload_n 0, 1) := dk_42 (dk_at dksX7_nextAsked_2 22 rfl rfl)
theorem dX7_nextAsked_71 : decode cX7_nextAsked 71 = .ok (.getfield 74, 3) := dk_180 0 74 (dk_at dksX7_nextAsked_3 0 rfl rfl)
theorem dX7_nextAsked_74 : decode cX7_nextAsked 74 = .ok (.bipush 12, 2) := dk_16 12 (dk_at dksX7_nextAsked_3 3 rfl rfl)
theorem dX7_nextAsked_76 : decode cX7_nextAsked 76 = .ok (.iload_n 1, 1) := dk_27 (dk_at dksX7_nextAsked_3 5 rfl rfl)
theorem dX7_nextAsked_77 : decode cX7_nextAsked 77 = .ok (.imul, 1) := dk_104 (dk_at dksX7_nextAsked_3 6 rfl rfl)
theorem dX7_nextAsked_78 : decode cX7_nextAsked 78 = .ok (.iload_n 3, 1) := dk_29 (dk_at dksX7_nextAsked_3 7 rfl rfl)
theorem dX7_nextAsked_79 : decode cX7_nextAsked 79 = .ok (.iadd, 1) := dk_96 (dk_at dksX7_nextAsked_3 8 rfl rfl)
theorem dX7_nextAsked_80 : decode cX7_nextAsked 80 = .ok (.iaload, 1) := dk_46 (dk_at dksX7_nextAsked_3 9 rfl rfl)
theorem dX7_nextAsked_81 : decode cX7_nextAsked 81 = .ok (.aload_n 0, 1) := dk_42 (dk_at dksX7_nextAsked_3 10 rfl rfl)
theorem dX7_nextAsked_82 : decode cX7_nextAsked 82 = .ok (.getfield 74, 3) := dk_180 0 74 (dk_at dksX7_nextAsked_3 11 rfl rfl)
theorem dX7_nextAsked_85 : decode cX7_nextAsked 85 = .ok (.bipush 12, 2) := dk_16 12 (dk_at dksX7_nextAsked_3 14 rfl rfl)
theorem dX7_nextAsked_87 : decode cX7_nextAsked 87 = .ok (.iload_n 1, 1) := dk_27 (dk_at dksX7_nextAsked_3 16 rfl rfl)
theorem dX7_nextAsked_88 : decode cX7_nextAsked 88 = .ok (.imul, 1) := dk_104 (dk_at dksX7_nextAsked_3 17 rfl rfl)
theorem dX7_nextAsked_89 : decode cX7_nextAsked 89 = .ok (.iload_n 2, 1) := dk_28 (dk_at dksX7_nextAsked_3 18 rfl rfl)
theorem dX7_nextAsked_90 : decode cX7_nextAsked 90 = .ok (.iadd, 1) := dk_96 (dk_at dksX7_nextAsked_3 19 rfl rfl)
theorem dX7_nextAsked_91 : decode cX7_nextAsked 91 = .ok (.iaload, 1) := dk_46 (dk_at dksX7_nextAsked_3 20 rfl rfl)
theorem dX7_nextAsked_92 : decode cX7_nextAsked 92 = .ok (.if_icmp .le 5, 3) := dk_164 0 5 (dk_at dksX7_nextAsked_3 21 rfl rfl)
theorem dX7_nextAsked_95 : decode cX7_nextAsked 95 = .ok (.iload_n 3, 1) := dk_29 (dk_at dksX7_nextAsked_4 0 rfl rfl)
theorem dX7_nextAsked_96 : decode cX7_nextAsked 96 = .ok (.istore_n 2, 1) := dk_61 (dk_at dksX7_nextAsked_4 1 rfl rfl)
theorem dX7_nextAsked_97 : decode cX7_nextAsked 97 = .ok (.iinc 3 1, 3) := dk_132 3 1 (dk_at dksX7_nextAsked_4 2 rfl rfl)
theorem dX7_nextAsked_100 : decode cX7_nextAsked 100 = .ok (.goto (-96), 3) := dk_167 255 160 (dk_at dksX7_nextAsked_4 5 rfl rfl)
theorem dX7_nextAsked_103 : decode cX7_nextAsked 103 = .ok (.iload_n 2, 1) := dk_28 (dk_at dksX7_nextAsked_4 8 rfl rfl)
theorem dX7_nextAsked_104 : decode cX7_nextAsked 104 = .ok (.ireturn, 1) := dk_172 (dk_at dksX7_nextAsked_4 9 rfl rfl)
abbrev cX7_keeps : ByteArray := prog_21_method_80_code
def yX7_keeps : MethodName := ⟨RX7, "keeps", "(II)Z"⟩
def dkwX7_keeps_3 : List UInt8 := [162, 0, 7, 4, 167, 0, 4, 3, 172]
abbrev dktX7_keeps_3 : List UInt8 := dkwX7_keeps_3 ++ []
def dkwX7_keeps_2 : List UInt8 := [163, 0, 25, 29, 42, 180, 0, 74, 16, 12, 27, 104, 21, 4, 96, 46, 160, 0, 13, 28, 21, 4]
abbrev dktX7_keeps_2 : List UInt8 := dkwX7_keeps_2 ++ dktX7_keeps_3
def dkwX7_keeps_1 : List UInt8 := [54, 4, 21, 4, 16, 254, 159, 0, 41, 29, 42, 180, 0, 74, 16, 12, 27, 104, 21, 4, 96, 46]
abbrev dktX7_keeps_1 : List UInt8 := dkwX7_keeps_1 ++ dktX7_keeps_2
def dkwX7_keeps_0 : List UInt8 := [42, 180, 0, 74, 16, 12, 27, 104, 28, 96, 46, 62, 29, 154, 0, 5, 3, 172, 42, 180, 0, 84, 27, 46]
abbrev dktX7_keeps_0 : List UInt8 := dkwX7_keeps_0 ++ dktX7_keeps_1
theorem dksX7_keeps_0 : cX7_keeps.data.toList.drop 0 = dktX7_keeps_0 := by decide +kernel
theorem dksX7_keeps_1 : cX7_keeps.data.toList.drop 24 = dktX7_keeps_1 := dk_seg dksX7_keeps_0 24 rfl rfl
theorem dksX7_keeps_2 : cX7_keeps.data.toList.drop 46 = dktX7_keeps_2 := dk_seg dksX7_keeps_1 22 rfl rfl
theorem dksX7_keeps_3 : cX7_keeps.data.toList.drop 68 = dktX7_keeps_3 := dk_seg dksX7_keeps_2 22 rfl rfl
theorem dX7_keeps_0 : decode cX7_keeps 0 = .ok (.aload_n 0, 1) := dk_42 (dk_at dksX7_keeps_0 0 rfl rfl)
theorem dX7_keeps_1 : decode cX7_keeps 1 = .ok (.getfield 74, 3) := dk_180 0 74 (dk_at dksX7_keeps_0 1 rfl rfl)
theorem dX7_keeps_4 : decode cX7_keeps 4 = .ok (.bipush 12, 2) := dk_16 12 (dk_at dksX7_keeps_0 4 rfl rfl)
theorem dX7_keeps_6 : decode cX7_keeps 6 = .ok (.iload_n 1, 1) := dk_27 (dk_at dksX7_keeps_0 6 rfl rfl)
theorem dX7_keeps_7 : decode cX7_keeps 7 = .ok (.imul, 1) := dk_104 (dk_at dksX7_keeps_0 7 rfl rfl)
theorem dX7_keeps_8 : decode cX7_keeps 8 = .ok (.iload_n 2, 1) := dk_28 (dk_at dksX7_keeps_0 8 rfl rfl)
theorem dX7_keeps_9 : decode cX7_keeps 9 = .ok (.iadd, 1) := dk_96 (dk_at dksX7_keeps_0 9 rfl rfl)
theorem dX7_keeps_10 : decode cX7_keeps 10 = .ok (.iaload, 1) := dk_46 (dk_at dksX7_keeps_0 10 rfl rfl)
theorem dX7_keeps_11 : decode cX7_keeps 11 = .ok (.istore_n 3, 1) := dk_62 (dk_at dksX7_keeps_0 11 rfl rfl)
theorem dX7_keeps_12 : decode cX7_keeps 12 = .ok (.iload_n 3, 1) := dk_29 (dk_at dksX7_keeps_0 12 rfl rfl)
theorem dX7_keeps_13 : decode cX7_keeps 13 = .ok (.ifCond .ne 5, 3) := dk_154 0 5 (dk_at dksX7_keeps_0 13 rfl rfl)
theorem dX7_keeps_16 : decode cX7_keeps 16 = .ok (.iconst 0, 1) := dk_3 (dk_at dksX7_keeps_0 16 rfl rfl)
theorem dX7_keeps_17 : decode cX7_keeps 17 = .ok (.ireturn, 1) := dk_172 (dk_at dksX7_keeps_0 17 rfl rfl)
theorem dX7_keeps_18 : decode cX7_keeps 18 = .ok (.aload_n 0, 1) := dk_42 (dk_at dksX7_keeps_0 18 rfl rfl)
theorem dX7_keeps_19 : decode cX7_keeps 19 = .ok (.getfield 84, 3) := dk_180 0 84 (dk_at dksX7_keeps_0 19 rfl rfl)
theorem dX7_keeps_22 : decode cX7_keeps 22 = .ok (.iload_n 1, 1) := dk_27 (dk_at dksX7_keeps_0 22 rfl rfl)
theorem dX7_keeps_23 : decode cX7_keeps 23 = .ok (.iaload, 1) := dk_46 (dk_at dksX7_keeps_0 23 rfl rfl)
theorem dX7_keeps_24 : decode cX7_keeps 24 = .ok (.istore 4, 2) := dk_54 4 (dk_at dksX7_keeps_1 0 rfl rfl)
theorem dX7_keeps_26 : decode cX7_keeps 26 = .ok (.iload 4, 2) := dk_21 4 (dk_at dksX7_keeps_1 2 rfl rfl)
theorem dX7_keeps_28 : decode cX7_keeps 28 = .ok (.bipush (-2), 2) := dk_16 254 (dk_at dksX7_keeps_1 4 rfl rfl)
theorem dX7_keeps_30 : decode cX7_keeps 30 = .ok (.if_icmp .eq 41, 3) := dk_159 0 41 (dk_at dksX7_keeps_1 6 rfl rfl)
theorem dX7_keeps_33 : decode cX7_keeps 33 = .ok (.iload_n 3, 1) := dk_29 (dk_at dksX7_keeps_1 9 rfl rfl)
theorem dX7_keeps_34 : decode cX7_keeps 34 = .ok (.aload_n 0, 1) := dk_42 (dk_at dksX7_keeps_1 10 rfl rfl)
theorem dX7_keeps_35 : decode cX7_keeps 35 = .ok (.getfield 74, 3) := dk_180 0 74 (dk_at dksX7_keeps_1 11 rfl rfl)
theorem dX7_keeps_38 : decode cX7_keeps 38 = .ok (.bipush 12, 2) := dk_16 12 (dk_at dksX7_keeps_1 14 rfl rfl)
theorem dX7_keeps_40 : decode cX7_keeps 40 = .ok (.iload_n 1, 1) := dk_27 (dk_at dksX7_keeps_1 16 rfl rfl)
theorem dX7_keeps_41 : decode cX7_keeps 41 = .ok (.imul, 1) := dk_104 (dk_at dksX7_keeps_1 17 rfl rfl)
theorem dX7_keeps_42 : decode cX7_keeps 42 = .ok (.iload 4, 2) := dk_21 4 (dk_at dksX7_keeps_1 18 rfl rfl)
theorem dX7_keeps_44 : decode cX7_keeps 44 = .ok (.iadd, 1) := dk_96 (dk_at dksX7_keeps_1 20 rfl rfl)
theorem dX7_keeps_45 : decode cX7_keeps 45 = .ok (.iaload, 1) := dk_46 (dk_at dksX7_keeps_1 21 rfl rfl)
theorem dX7_keeps_46 : decode cX7_keeps 46 = .ok (.if_icmp .gt 25, 3) := dk_163 0 25 (dk_at dksX7_keeps_2 0 rfl rfl)
theorem dX7_keeps_49 : decode cX7_keeps 49 = .ok (.iload_n 3, 1) := dk_29 (dk_at dksX7_keeps_2 3 rfl rfl)
theorem dX7_keeps_50 : decode cX7_keeps 50 = .ok (.aload_n 0, 1) := dk_42 (dk_at dksX7_keeps_2 4 rfl rfl)
theorem dX7_keeps_51 : decode cX7_keeps 51 = .ok (.getfield 74, 3) := dk_180 0 74 (dk_at dksX7_keeps_2 5 rfl rfl)
theorem dX7_keeps_54 : decode cX7_keeps 54 = .ok (.bipush 12, 2) := dk_16 12 (dk_at dksX7_keeps_2 8 rfl rfl)
theorem dX7_keeps_56 : decode cX7_keeps 56 = .ok (.iload_n 1, 1) := dk_27 (dk_at dksX7_keeps_2 10 rfl rfl)
theorem dX7_keeps_57 : decode cX7_keeps 57 = .ok (.imul, 1) := dk_104 (dk_at dksX7_keeps_2 11 rfl rfl)
theorem dX7_keeps_58 : decode cX7_keeps 58 = .ok (.iload 4, 2) := dk_21 4 (dk_at dksX7_keeps_2 12 rfl rfl)
theorem dX7_keeps_60 : decode cX7_keeps 60 = .ok (.iadd, 1) := dk_96 (dk_at dksX7_keeps_2 14 rfl rfl)
theorem dX7_keeps_61 : decode cX7_keeps 61 = .ok (.iaload, 1) := dk_46 (dk_at dksX7_keeps_2 15 rfl rfl)
theorem dX7_keeps_62 : decode cX7_keeps 62 = .ok (.if_icmp .ne 13, 3) := dk_160 0 13 (dk_at dksX7_keeps_2 16 rfl rfl)
theorem dX7_keeps_65 : decode cX7_keeps 65 = .ok (.iload_n 2, 1) := dk_28 (dk_at dksX7_keeps_2 19 rfl rfl)
theorem dX7_keeps_66 : decode cX7_keeps 66 = .ok (.iload 4, 2) := dk_21 4 (dk_at dksX7_keeps_2 20 rfl rfl)
theorem dX7_keeps_68 : decode cX7_keeps 68 = .ok (.if_icmp .ge 7, 3) := dk_162 0 7 (dk_at dksX7_keeps_3 0 rfl rfl)
theorem dX7_keeps_71 : decode cX7_keeps 71 = .ok (.iconst 1, 1) := dk_4 (dk_at dksX7_keeps_3 3 rfl rfl)
theorem dX7_keeps_72 : decode cX7_keeps 72 = .ok (.goto 4, 3) := dk_167 0 4 (dk_at dksX7_keeps_3 4 rfl rfl)
theorem dX7_keeps_75 : decode cX7_keeps 75 = .ok (.iconst 0, 1) := dk_3 (dk_at dksX7_keeps_3 7 rfl rfl)
theorem dX7_keeps_76 : decode cX7_keeps 76 = .ok (.ireturn, 1) := dk_172 (dk_at dksX7_keeps_3 8 rfl rfl)
abbrev cX7_unrest : ByteArray := prog_21_method_84_code
def yX7_unrest : MethodName := ⟨RX7, "unrest", "(I)I"⟩
def dkwX7_unrest_8 : List UInt8 := [167, 0, 19, 27, 4, 160, 0, 10, 29, 16, 12, 108, 167, 0, 7, 29, 16, 12, 112, 172]
abbrev dktX7_unrest_8 : List UInt8 := dkwX7_unrest_8 ++ []
def dkwX7_unrest_7 : List UInt8 := [167, 255, 125, 132, 4, 1, 167, 255, 109, 27, 154, 0, 7, 28, 167, 0, 29, 29, 2, 160, 0, 8, 16, 254]
abbrev dktX7_unrest_7 : List UInt8 := dkwX7_unrest_7 ++ dktX7_unrest_8
def dkwX7_unrest_6 : List UInt8 := [28, 154, 0, 14, 16, 12, 21, 4, 104, 21, 5, 96, 167, 0, 4, 29, 62, 28, 4, 96, 61, 132, 5, 1]
abbrev dktX7_unrest_6 : List UInt8 := dkwX7_unrest_6 ++ dktX7_unrest_7
def dkwX7_unrest_5 : List UInt8 := [180, 0, 74, 16, 12, 21, 5, 104, 21, 4, 96, 46, 42, 21, 5, 182, 1, 99, 163, 0, 6, 167, 0, 24]
abbrev dktX7_unrest_5 : List UInt8 := dkwX7_unrest_5 ++ dktX7_unrest_6
def dkwX7_unrest_4 : List UInt8 := [42, 180, 0, 74, 16, 12, 21, 4, 104, 21, 5, 96, 46, 42, 21, 4, 182, 1, 99, 164, 0, 49, 42]
abbrev dktX7_unrest_4 : List UInt8 := dkwX7_unrest_4 ++ dktX7_unrest_5
def dkwX7_unrest_3 : List UInt8 := [184, 0, 101, 153, 0, 89, 42, 180, 0, 7, 16, 24, 21, 4, 96, 46, 21, 5, 160, 0, 6, 167, 0, 71]
abbrev dktX7_unrest_3 : List UInt8 := dkwX7_unrest_3 ++ dktX7_unrest_4
def dkwX7_unrest_2 : List UInt8 := [153, 0, 114, 42, 21, 5, 4, 182, 1, 78, 153, 0, 104, 42, 180, 0, 68, 21, 4, 46, 21, 5]
abbrev dktX7_unrest_2 : List UInt8 := dkwX7_unrest_2 ++ dktX7_unrest_3
def dkwX7_unrest_1 : List UInt8 := [16, 12, 162, 0, 146, 3, 54, 5, 21, 5, 16, 12, 162, 0, 130, 42, 21, 4, 3, 182, 1, 78]
abbrev dktX7_unrest_1 : List UInt8 := dkwX7_unrest_1 ++ dktX7_unrest_2
def dkwX7_unrest_0 : List UInt8 := [27, 3, 5, 184, 0, 111, 154, 0, 5, 2, 172, 42, 182, 1, 74, 3, 61, 2, 62, 3, 54, 4, 21, 4]
abbrev dktX7_unrest_0 : List UInt8 := dkwX7_unrest_0 ++ dktX7_unrest_1
theorem dksX7_unrest_0 : cX7_unrest.data.toList.drop 0 = dktX7_unrest_0 := by decide +kernel
theorem dksX7_unrest_1 : cX7_unrest.data.toList.drop 24 = dktX7_unrest_1 := dk_seg dksX7_unrest_0 24 rfl rfl
theorem dksX7_unrest_2 : cX7_unrest.data.toList.drop 46 = dktX7_unrest_2 := dk_seg dksX7_unrest_1 22 rfl rfl
theorem dksX7_unrest_3 : cX7_unrest.data.toList.drop 68 = dktX7_unrest_3 := dk_seg dksX7_unrest_2 22 rfl rfl
theorem dksX7_unrest_4 : cX7_unrest.data.toList.drop 92 = dktX7_unrest_4 := dk_seg dksX7_unrest_3 24 rfl rfl
theorem dksX7_unrest_5 : cX7_unrest.data.toList.drop 115 = dktX7_unrest_5 := dk_seg dksX7_unrest_4 23 rfl rfl
theorem dksX7_unrest_6 : cX7_unrest.data.toList.drop 139 = dktX7_unrest_6 := dk_seg dksX7_unrest_5 24 rfl rfl
theorem dksX7_unrest_7 : cX7_unrest.data.toList.drop 163 = dktX7_unrest_7 := dk_seg dksX7_unrest_6 24 rfl rfl
theorem dksX7_unrest_8 : cX7_unrest.data.toList.drop 187 = dktX7_unrest_8 := dk_seg dksX7_unrest_7 24 rfl rfl
theorem dX7_unrest_0 : decode cX7_unrest 0 = .ok (.iload_n 1, 1) := dk_27 (dk_at dksX7_unrest_0 0 rfl rfl)
theorem dX7_unrest_1 : decode cX7_unrest 1 = .ok (.iconst 0, 1) := dk_3 (dk_at dksX7_unrest_0 1 rfl rfl)
theorem dX7_unrest_2 : decode cX7_unrest 2 = .ok (.iconst 2, 1) := dk_5 (dk_at dksX7_unrest_0 2 rfl rfl)
theorem dX7_unrest_3 : decode cX7_unrest 3 = .ok (.invokestatic 111, 3) := dk_184 0 111 (dk_at dksX7_unrest_0 3 rfl rfl)
theorem dX7_unrest_6 : decode cX7_unrest 6 = .ok (.ifCond .ne 5, 3) := dk_154 0 5 (dk_at dksX7_unrest_0 6 rfl rfl)
theorem dX7_unrest_9 : decode cX7_unrest 9 = .ok (.iconst (-1), 1) := dk_2 (dk_at dksX7_unrest_0 9 rfl rfl)
theorem dX7_unrest_10 : decode cX7_unrest 10 = .ok (.ireturn, 1) := dk_172 (dk_at dksX7_unrest_0 10 rfl rfl)
theorem dX7_unrest_11 : decode cX7_unrest 11 = .ok (.aload_n 0, 1) := dk_42 (dk_at dksX7_unrest_0 11 rfl rfl)
theorem dX7_unrest_12 : decode cX7_unrest 12 = .ok (.invokevirtual 330, 3) := dk_182 1 74 (dk_at dksX7_unrest_0 12 rfl rfl)
theorem dX7_unrest_15 : decode cX7_unrest 15 = .ok (.iconst 0, 1) := dk_3 (dk_at dksX7_unrest_0 15 rfl rfl)
theorem dX7_unrest_16 : decode cX7_unrest 16 = .ok (.istore_n 2, 1) := dk_61 (dk_at dksX7_unrest_0 16 rfl rfl)
theorem dX7_unrest_17 : decode cX7_unrest 17 = .ok (.iconst (-1), 1) := dk_2 (dk_at dksX7_unrest_0 17 rfl rfl)
theorem dX7_unrest_18 : decode cX7_unrest 18 = .ok (.istore_n 3, 1) := dk_62 (dk_at dksX7_unrest_0 18 rfl rfl)
theorem dX7_unrest_19 : decode cX7_unrest 19 = .ok (.iconst 0, 1) := dk_3 (dk_at dksX7_unrest_0 19 rfl rfl)
theorem dX7_unrest_20 : decode cX7_unrest 20 = .ok (.istore 4, 2) := dk_54 4 (dk_at dksX7_unrest_0 20 rfl rfl)
theorem dX7_unrest_22 : decode cX7_unrest 22 = .ok (.iload 4, 2) := dk_21 4 (dk_at dksX7_unrest_0 22 rfl rfl)
theorem dX7_unrest_24 : decode cX7_unrest 24 = .ok (.bipush 12, 2) := dk_16 12 (dk_at dksX7_unrest_1 0 rfl rfl)
theorem dX7_unrest_26 : decode cX7_unrest 26 = .ok (.if_icmp .ge 146, 3) := dk_162 0 146 (dk_at dksX7_unrest_1 2 rfl rfl)
theorem dX7_unrest_29 : decode cX7_unrest 29 = .ok (.iconst 0, 1) := dk_3 (dk_at dksX7_unrest_1 5 rfl rfl)
theorem dX7_unrest_30 : decode cX7_unrest 30 = .ok (.istore 5, 2) := dk_54 5 (dk_at dksX7_unrest_1 6 rfl rfl)
theorem dX7_unrest_32 : decode cX7_unrest 32 = .ok (.iload 5, 2) := dk_21 5 (dk_at dksX7_unrest_1 8 rfl rfl)
theorem dX7_unrest_34 : decode cX7_unrest 34 = .ok (.bipush 12, 2) := dk_16 12 (dk_at dksX7_unrest_1 10 rfl rfl)
theorem dX7_unrest_36 : decode cX7_unrest 36 = .ok (.if_icmp .ge 130, 3) := dk_162 0 130 (dk_at dksX7_unrest_1 12 rfl rfl)
theorem dX7_unrest_39 : decode cX7_unrest 39 = .ok (.aload_n 0, 1) := dk_42 (dk_at dksX7_unrest_1 15 rfl rfl)
theorem dX7_unrest_40 : decode cX7_unrest 40 = .ok (.iload 4, 2) := dk_21 4 (dk_at dksX7_unrest_1 16 rfl rfl)
theorem dX7_unrest_42 : decode cX7_unrest 42 = .ok (.iconst 0, 1) := dk_3 (dk_at dksX7_unrest_1 18 rfl rfl)
theorem dX7_unrest_43 : decode cX7_unrest 43 = .ok (.invokevirtual 334, 3) := dk_182 1 78 (dk_at dksX7_unrest_1 19 rfl rfl)
theorem dX7_unrest_46 : decode cX7_unrest 46 = .ok (.ifCond .eq 114, 3) := dk_153 0 114 (dk_at dksX7_unrest_2 0 rfl rfl)
theorem dX7_unrest_49 : decode cX7_unrest 49 = .ok (.aload_n 0, 1) := dk_42 (dk_at dksX7_unrest_2 3 rfl rfl)
theorem dX7_unrest_50 : decode cX7_unrest 50 = .ok (.iload 5, 2) := dk_21 5 (dk_at dksX7_unrest_2 4 rfl rfl)
theorem dX7_unrest_52 : decode cX7_unrest 52 = .ok (.iconst 1, 1) := dk_4 (dk_at dksX7_unrest_2 6 rfl rfl)
theorem dX7_unrest_53 : decode cX7_unrest 53 = .ok (.invokevirtual 334, 3) := dk_182 1 78 (dk_at dksX7_unrest_2 7 rfl rfl)
theorem dX7_unrest_56 : decode cX7_unrest 56 = .ok (.ifCond .eq 104, 3) := dk_153 0 104 (dk_at dksX7_unrest_2 10 rfl rfl)
theorem dX7_unrest_59 : decode cX7_unrest 59 = .ok (.aload_n 0, 1) := dk_42 (dk_at dksX7_unrest_2 13 rfl rfl)
theorem dX7_unrest_60 : decode cX7_unrest 60 = .ok (.getfield 68, 3) := dk_180 0 68 (dk_at dksX7_unrest_2 14 rfl rfl)
theorem dX7_unrest_63 : decode cX7_unrest 63 = .ok (.iload 4, 2) := dk_21 4 (dk_at dksX7_unrest_2 17 rfl rfl)
theorem dX7_unrest_65 : decode cX7_unrest 65 = .ok (.iaload, 1) := dk_46 (dk_at dksX7_unrest_2 19 rfl rfl)
theorem dX7_unrest_66 : decode cX7_unrest 66 = .ok (.iload 5, 2) := dk_21 5 (dk_at dksX7_unrest_2 20 rfl rfl)
theorem dX7_unrest_68 : decode cX7_unrest 68 = .ok (.invokestatic 101, 3) := dk_184 0 101 (dk_at dksX7_unrest_3 0 rfl rfl)
theorem dX7_unrest_71 : decode cX7_unrest 71 = .ok (.ifCond .eq 89, 3) := dk_153 0 89 (dk_at dksX7_unrest_3 3 rfl rfl)
theorem dX7_unrest_74 : decode cX7_unrest 74 = .ok (.aload_n 0, 1) := dk_42 (dk_at dksX7_unrest_3 6 rfl rfl)
theorem dX7_unrest_75 : decode cX7_unrest 75 = .ok (.getfield 7, 3) := dk_180 0 7 (dk_at dksX7_unrest_3 7 rfl rfl)
theorem dX7_unrest_78 : decode cX7_unrest 78 = .ok (.bipush 24, 2) := dk_16 24 (dk_at dksX7_unrest_3 10 rfl rfl)
theorem dX7_unrest_80 : decode cX7_unrest 80 = .ok (.iload 4, 2) := dk_21 4 (dk_at dksX7_unrest_3 12 rfl rfl)
theorem dX7_unrest_82 : decode cX7_unrest 82 = .ok (.iadd, 1) := dk_96 (dk_at dksX7_unrest_3 14 rfl rfl)
theorem dX7_unrest_83 : decode cX7_unrest 83 = .ok (.iaload, 1) := dk_46 (dk_at dksX7_unrest_3 15 rfl rfl)
theorem dX7_unrest_84 : decode cX7_unrest 84 = .ok (.iload 5, 2) := dk_21 5 (dk_at dksX7_unrest_3 16 rfl rfl)
theorem dX7_unrest_86 : decode cX7_unrest 86 = .ok (.if_icmp .ne 6, 3) := dk_160 0 6 (dk_at dksX7_unrest_3 18 rfl rfl)
theorem dX7_unrest_89 : decode cX7_unrest 89 = .ok (.goto 71, 3) := dk_167 0 71 (dk_at dksX7_unrest_3 21 rfl rfl)
theorem dX7_unrest_92 : decode cX7_unrest 92 = .ok (.aload_n 0, 1) := dk_42 (dk_at dksX7_unrest_4 0 rfl rfl)
theorem dX7_unrest_93 : decode cX7_unrest 93 = .ok (.getfield 74, 3) := dk_180 0 74 (dk_at dksX7_unrest_4 1 rfl rfl)
theorem dX7_unrest_96 : decode cX7_unrest 96 = .ok (.bipush 12, 2) := dk_16 12 (dk_at dksX7_unrest_4 4 rfl rfl)
theorem dX7_unrest_98 : decode cX7_unrest 98 = .ok (.iload 4, 2) := dk_21 4 (dk_at dksX7_unrest_4 6 rfl rfl)
theorem dX7_unrest_100 : decode cX7_unrest 100 = .ok (.imul, 1) := dk_104 (dk_at dksX7_unrest_4 8 rfl rfl)
theorem dX7_unrest_101 : decode cX7_unrest 101 = .ok (.iload 5, 2) := dk_21 5 (dk_at dksX7_unrest_4 9 rfl rfl)
theorem dX7_unrest_103 : decode cX7_unrest 103 = .ok (.iadd, 1) := dk_96 (dk_at dksX7_unrest_4 11 rfl rfl)
theorem dX7_unrest_104 : decode cX7_unrest 104 = .ok (.iaload, 1) := dk_46 (dk_at dksX7_unrest_4 12 rfl rfl)
theorem dX7_unrest_105 : decode cX7_unrest 105 = .ok (.aload_n 0, 1) := dk_42 (dk_at dksX7_unrest_4 13 rfl rfl)
theorem dX7_unrest_106 : decode cX7_unrest 106 = .ok (.iload 4, 2) := dk_21 4 (dk_at dksX7_unrest_4 14 rfl rfl)
theorem dX7_unrest_108 : decode cX7_unrest 108 = .ok (.invokevirtual 355, 3) := dk_182 1 99 (dk_at dksX7_unrest_4 16 rfl rfl)
theorem dX7_unrest_111 : decode cX7_unrest 111 = .ok (.if_icmp .le 49, 3) := dk_164 0 49 (dk_at dksX7_unrest_4 19 rfl rfl)
theorem dX7_unrest_114 : decode cX7_unrest 114 = .ok (.aload_n 0, 1) := dk_42 (dk_at dksX7_unrest_4 22 rfl rfl)
theorem dX7_unrest_115 : decode cX7_unrest 115 = .ok (.getfield 74, 3) := dk_180 0 74 (dk_at dksX7_unrest_5 0 rfl rfl)
theorem dX7_unrest_118 : decode cX7_unrest 118 = .ok (.bipush 12, 2) := dk_16 12 (dk_at dksX7_unrest_5 3 rfl rfl)
theorem dX7_unrest_120 : decode cX7_unrest 120 = .ok (.iload 5, 2) := dk_21 5 (dk_at dksX7_unrest_5 5 rfl rfl)
theorem dX7_unrest_122 : decode cX7_unrest 122 = .ok (.imul, 1) := dk_104 (dk_at dksX7_unrest_5 7 rfl rfl)
theorem dX7_unrest_123 : decode cX7_unrest 123 = .ok (.iload 4, 2) := dk_21 4 (dk_at dksX7_unrest_5 8 rfl rfl)
theorem dX7_unrest_125 : decode cX7_unrest 125 = .ok (.iadd, 1) := dk_96 (dk_at dksX7_unrest_5 10 rfl rfl)
theorem dX7_unrest_126 : decode cX7_unrest 126 = .ok (.iaload, 1) := dk_46 (dk_at dksX7_unrest_5 11 rfl rfl)
theorem dX7_unrest_127 : decode cX7_unrest 127 = .ok (.aload_n 0, 1) := dk_42 (dk_at dksX7_unrest_5 12 rfl rfl)
theorem dX7_unrest_128 : decode cX7_unrest 128 = .ok (.iload 5, 2) := dk_21 5 (dk_at dksX7_unrest_5 13 rfl rfl)
theorem dX7_unrest_130 : decode cX7_unrest 130 = .ok (.invokevirtual 355, 3) := dk_182 1 99 (dk_at dksX7_unrest_5 15 rfl rfl)
theorem dX7_unrest_133 : decode cX7_unrest 133 = .ok (.if_icmp .gt 6, 3) := dk_163 0 6 (dk_at dksX7_unrest_5 18 rfl rfl)
theorem dX7_unrest_136 : decode cX7_unrest 136 = .ok (.goto 24, 3) := dk_167 0 24 (dk_at dksX7_unrest_5 21 rfl rfl)
theorem dX7_unrest_139 : decode cX7_unrest 139 = .ok (.iload_n 2, 1) := dk_28 (dk_at dksX7_unrest_6 0 rfl rfl)
theorem dX7_unrest_140 : decode cX7_unrest 140 = .ok (.ifCond .ne 14, 3) := dk_154 0 14 (dk_at dksX7_unrest_6 1 rfl rfl)
theorem dX7_unrest_143 : decode cX7_unrest 143 = .ok (.bipush 12, 2) := dk_16 12 (dk_at dksX7_unrest_6 4 rfl rfl)
theorem dX7_unrest_145 : decode cX7_unrest 145 = .ok (.iload 4, 2) := dk_21 4 (dk_at dksX7_unrest_6 6 rfl rfl)
theorem dX7_unrest_147 : decode cX7_unrest 147 = .ok (.imul, 1) := dk_104 (dk_at dksX7_unrest_6 8 rfl rfl)
theorem dX7_unrest_148 : decode cX7_unrest 148 = .ok (.iload 5, 2) := dk_21 5 (dk_at dksX7_unrest_6 9 rfl rfl)
theorem dX7_unrest_150 : decode cX7_unrest 150 = .ok (.iadd, 1) := dk_96 (dk_at dksX7_unrest_6 11 rfl rfl)
theorem dX7_unrest_151 : decode cX7_unrest 151 = .ok (.goto 4, 3) := dk_167 0 4 (dk_at dksX7_unrest_6 12 rfl rfl)
theorem dX7_unrest_154 : decode cX7_unrest 154 = .ok (.iload_n 3, 1) := dk_29 (dk_at dksX7_unrest_6 15 rfl rfl)
theorem dX7_unrest_155 : decode cX7_unrest 155 = .ok (.istore_n 3, 1) := dk_62 (dk_at dksX7_unrest_6 16 rfl rfl)
theorem dX7_unrest_156 : decode cX7_unrest 156 = .ok (.iload_n 2, 1) := dk_28 (dk_at dksX7_unrest_6 17 rfl rfl)
theorem dX7_unrest_157 : decode cX7_unrest 157 = .ok (.iconst 1, 1) := dk_4 (dk_at dksX7_unrest_6 18 rfl rfl)
theorem dX7_unrest_158 : decode cX7_unrest 158 = .ok (.iadd, 1) := dk_96 (dk_at dksX7_unrest_6 19 rfl rfl)
theorem dX7_unrest_159 : decode cX7_unrest 159 = .ok (.istore_n 2, 1) := dk_61 (dk_at dksX7_unrest_6 20 rfl rfl)
theorem dX7_unrest_160 : decode cX7_unrest 160 = .ok (.iinc 5 1, 3) := dk_132 5 1 (dk_at dksX7_unrest_6 21 rfl rfl)
theorem dX7_unrest_163 : decode cX7_unrest 163 = .ok (.goto (-131), 3) := dk_167 255 125 (dk_at dksX7_unrest_7 0 rfl rfl)
theorem dX7_unrest_166 : decode cX7_unrest 166 = .ok (.iinc 4 1, 3) := dk_132 4 1 (dk_at dksX7_unrest_7 3 rfl rfl)
theorem dX7_unrest_169 : decode cX7_unrest 169 = .ok (.goto (-147), 3) := dk_167 255 109 (dk_at dksX7_unrest_7 6 rfl rfl)
theorem dX7_unrest_172 : decode cX7_unrest 172 = .ok (.iload_n 1, 1) := dk_27 (dk_at dksX7_unrest_7 9 rfl rfl)
theorem dX7_unrest_173 : decode cX7_unrest 173 = .ok (.ifCond .ne 7, 3) := dk_154 0 7 (dk_at dksX7_unrest_7 10 rfl rfl)
theorem dX7_unrest_176 : decode cX7_unrest 176 = .ok (.iload_n 2, 1) := dk_28 (dk_at dksX7_unrest_7 13 rfl rfl)
theorem dX7_unrest_177 : decode cX7_unrest 177 = .ok (.goto 29, 3) := dk_167 0 29 (dk_at dksX7_unrest_7 14 rfl rfl)
theorem dX7_unrest_180 : decode cX7_unrest 180 = .ok (.iload_n 3, 1) := dk_29 (dk_at dksX7_unrest_7 17 rfl rfl)
theorem dX7_unrest_181 : decode cX7_unrest 181 = .ok (.iconst (-1), 1) := dk_2 (dk_at dksX7_unrest_7 18 rfl rfl)
theorem dX7_unrest_182 : decode cX7_unrest 182 = .ok (.if_icmp .ne 8, 3) := dk_160 0 8 (dk_at dksX7_unrest_7 19 rfl rfl)
theorem dX7_unrest_185 : decode cX7_unrest 185 = .ok (.bipush (-2), 2) := dk_16 254 (dk_at dksX7_unrest_7 22 rfl rfl)
theorem dX7_unrest_187 : decode cX7_unrest 187 = .ok (.goto 19, 3) := dk_167 0 19 (dk_at dksX7_unrest_8 0 rfl rfl)
theorem dX7_unrest_190 : decode cX7_unrest 190 = .ok (.iload_n 1, 1) := dk_27 (dk_at dksX7_unrest_8 3 rfl rfl)
theorem dX7_unrest_191 : decode cX7_unrest 191 = .ok (.iconst 1, 1) := dk_4 (dk_at dksX7_unrest_8 4 rfl rfl)
theorem dX7_unrest_192 : decode cX7_unrest 192 = .ok (.if_icmp .ne 10, 3) := dk_160 0 10 (dk_at dksX7_unrest_8 5 rfl rfl)
theorem dX7_unrest_195 : decode cX7_unrest 195 = .ok (.iload_n 3, 1) := dk_29 (dk_at dksX7_unrest_8 8 rfl rfl)
theorem dX7_unrest_196 : decode cX7_unrest 196 = .ok (.bipush 12, 2) := dk_16 12 (dk_at dksX7_unrest_8 9 rfl rfl)
theorem dX7_unrest_198 : decode cX7_unrest 198 = .ok (.idiv, 1) := dk_108 (dk_at dksX7_unrest_8 11 rfl rfl)
theorem dX7_unrest_199 : decode cX7_unrest 199 = .ok (.goto 7, 3) := dk_167 0 7 (dk_at dksX7_unrest_8 12 rfl rfl)
theorem dX7_unrest_202 : decode cX7_unrest 202 = .ok (.iload_n 3, 1) := dk_29 (dk_at dksX7_unrest_8 15 rfl rfl)
theorem dX7_unrest_203 : decode cX7_unrest 203 = .ok (.bipush 12, 2) := dk_16 12 (dk_at dksX7_unrest_8 16 rfl rfl)
theorem dX7_unrest_205 : decode cX7_unrest 205 = .ok (.irem, 1) := dk_112 (dk_at dksX7_unrest_8 18 rfl rfl)
theorem dX7_unrest_206 : decode cX7_unrest 206 = .ok (.ireturn, 1) := dk_172 (dk_at dksX7_unrest_8 19 rfl rfl)
abbrev cX7_likesWed : ByteArray := prog_21_method_83_code
def yX7_likesWed : MethodName := ⟨RX7, "likesWed", "(I)I"⟩
def dkwX7_likesWed_1 : List UInt8 := [16, 24, 27, 96, 46, 182, 1, 71, 172]
abbrev dktX7_likesWed_1 : List UInt8 := dkwX7_likesWed_1 ++ []
def dkwX7_likesWed_0 : List UInt8 := [42, 180, 0, 7, 16, 24, 27, 96, 46, 16, 254, 160, 0, 7, 3, 167, 0, 17, 42, 27, 42, 180, 0, 7]
abbrev dktX7_likesWed_0 : List UInt8 := dkwX7_likesWed_0 ++ dktX7_likesWed_1
theorem dksX7_likesWed_0 : cX7_likesWed.data.toList.drop 0 = dktX7_likesWed_0 := by decide +kernel
theorem dksX7_likesWed_1 : cX7_likesWed.data.toList.drop 24 = dktX7_likesWed_1 := dk_seg dksX7_likesWed_0 24 rfl rfl
theorem dX7_likesWed_0 : decode cX7_likesWed 0 = .ok (.aload_n 0, 1) := dk_42 (dk_at dksX7_likesWed_0 0 rfl rfl)
theorem dX7_likesWed_1 : decode cX7_likesWed 1 = .ok (.getfield 7, 3) := dk_180 0 7 (dk_at dksX7_likesWed_0 1 rfl rfl)
theorem dX7_likesWed_4 : decode cX7_likesWed 4 = .ok (.bipush 24, 2) := dk_16 24 (dk_at dksX7_likesWed_0 4 rfl rfl)
theorem dX7_likesWed_6 : decode cX7_likesWed 6 = .ok (.iload_n 1, 1) := dk_27 (dk_at dksX7_likesWed_0 6 rfl rfl)
theorem dX7_likesWed_7 : decode cX7_likesWed 7 = .ok (.iadd, 1) := dk_96 (dk_at dksX7_likesWed_0 7 rfl rfl)
theorem dX7_likesWed_8 : decode cX7_likesWed 8 = .ok (.iaload, 1) := dk_46 (dk_at dksX7_likesWed_0 8 rfl rfl)
theorem dX7_likesWed_9 : decode cX7_likesWed 9 = .ok (.bipush (-2), 2) := dk_16 254 (dk_at dksX7_likesWed_0 9 rfl rfl)
theorem dX7_likesWed_11 : decode cX7_likesWed 11 = .ok (.if_icmp .ne 7, 3) := dk_160 0 7 (dk_at dksX7_likesWed_0 11 rfl rfl)
theorem dX7_likesWed_14 : decode cX7_likesWed 14 = .ok (.iconst 0, 1) := dk_3 (dk_at dksX7_likesWed_0 14 rfl rfl)
theorem dX7_likesWed_15 : decode cX7_likesWed 15 = .ok (.goto 17, 3) := dk_167 0 17 (dk_at dksX7_likesWed_0 15 rfl rfl)
theorem dX7_likesWed_18 : decode cX7_likesWed 18 = .ok (.aload_n 0, 1) := dk_42 (dk_at dksX7_likesWed_0 18 rfl rfl)
theorem dX7_likesWed_19 : decode cX7_likesWed 19 = .ok (.iload_n 1, 1) := dk_27 (dk_at dksX7_likesWed_0 19 rfl rfl)
theorem dX7_likesWed_20 : decode cX7_likesWed 20 = .ok (.aload_n 0, 1) := dk_42 (dk_at dksX7_likesWed_0 20 rfl rfl)
theorem dX7_likesWed_21 : decode cX7_likesWed 21 = .ok (.getfield 7, 3) := dk_180 0 7 (dk_at dksX7_likesWed_0 21 rfl rfl)
theorem dX7_likesWed_24 : decode cX7_likesWed 24 = .ok (.bipush 24, 2) := dk_16 24 (dk_at dksX7_likesWed_1 0 rfl rfl)
theorem dX7_likesWed_26 : decode cX7_likesWed 26 = .ok (.iload_n 1, 1) := dk_27 (dk_at dksX7_likesWed_1 2 rfl rfl)
theorem dX7_likesWed_27 : decode cX7_likesWed 27 = .ok (.iadd, 1) := dk_96 (dk_at dksX7_likesWed_1 3 rfl rfl)
theorem dX7_likesWed_28 : decode cX7_likesWed 28 = .ok (.iaload, 1) := dk_46 (dk_at dksX7_likesWed_1 4 rfl rfl)
theorem dX7_likesWed_29 : decode cX7_likesWed 29 = .ok (.invokevirtual 327, 3) := dk_182 1 71 (dk_at dksX7_likesWed_1 5 rfl rfl)
theorem dX7_likesWed_32 : decode cX7_likesWed 32 = .ok (.ireturn, 1) := dk_172 (dk_at dksX7_likesWed_1 8 rfl rfl)
abbrev cX7_search : ByteArray := prog_21_method_89_code
def yX7_search : MethodName := ⟨RX7, "search", "(II)I"⟩
def dkwX7_search_9 : List UInt8 := [167, 0, 8, 21, 6, 21, 7, 108, 172]
abbrev dktX7_search_9 : List UInt8 := dkwX7_search_9 ++ []
def dkwX7_search_8 : List UInt8 := [167, 255, 235, 21, 5, 21, 6, 184, 1, 111, 54, 7, 28, 16, 20, 160, 0, 11, 21, 5, 21, 7, 108]
abbrev dktX7_search_8 : List UInt8 := dkwX7_search_8 ++ dktX7_search_9
def dkwX7_search_7 : List UInt8 := [54, 7, 21, 7, 27, 162, 0, 21, 21, 6, 42, 180, 0, 19, 21, 7, 51, 96, 54, 6, 132, 7, 1]
abbrev dktX7_search_7 : List UInt8 := dkwX7_search_7 ++ dktX7_search_8
def dkwX7_search_6 : List UInt8 := [27, 21, 4, 182, 1, 105, 87, 28, 16, 20, 162, 0, 10, 42, 180, 0, 87, 28, 46, 172, 3, 54, 6, 3]
abbrev dktX7_search_6 : List UInt8 := dkwX7_search_6 ++ dktX7_search_7
def dkwX7_search_5 : List UInt8 := [161, 0, 6, 167, 0, 14, 42, 27, 182, 1, 108, 54, 5, 21, 6, 54, 4, 132, 6, 1, 167, 255, 213, 42]
abbrev dktX7_search_5 : List UInt8 := dkwX7_search_5 ++ dktX7_search_6
def dkwX7_search_4 : List UInt8 := [21, 6, 29, 162, 0, 43, 42, 27, 21, 6, 182, 1, 105, 153, 0, 27, 42, 27, 182, 1, 108, 21, 5]
abbrev dktX7_search_4 : List UInt8 := dkwX7_search_4 ++ dktX7_search_5
def dkwX7_search_3 : List UInt8 := [27, 162, 0, 13, 29, 27, 104, 62, 132, 4, 1, 167, 255, 243, 2, 54, 4, 18, 245, 54, 5, 3, 54, 6]
abbrev dktX7_search_3 : List UInt8 := dkwX7_search_3 ++ dktX7_search_4
def dkwX7_search_2 : List UInt8 := [154, 0, 17, 28, 3, 27, 4, 100, 184, 0, 111, 154, 0, 6, 16, 253, 172, 4, 62, 4, 54, 4, 21, 4]
abbrev dktX7_search_2 : List UInt8 := dkwX7_search_2 ++ dktX7_search_3
def dkwX7_search_1 : List UInt8 := [42, 3, 181, 0, 126, 42, 27, 182, 1, 102, 154, 0, 6, 16, 254, 172, 28, 16, 20, 16, 21, 184, 0, 111]
abbrev dktX7_search_1 : List UInt8 := dkwX7_search_1 ++ dktX7_search_2
def dkwX7_search_0 : List UInt8 := [27, 5, 16, 6, 184, 0, 111, 153, 0, 15, 27, 27, 27, 104, 96, 42, 180, 0, 126, 164, 0, 5, 2, 172]
abbrev dktX7_search_0 : List UInt8 := dkwX7_search_0 ++ dktX7_search_1
theorem dksX7_search_0 : cX7_search.data.toList.drop 0 = dktX7_search_0 := by decide +kernel
theorem dksX7_search_1 : cX7_search.data.toList.drop 24 = dktX7_search_1 := dk_seg dksX7_search_0 24 rfl rfl
theorem dksX7_search_2 : cX7_search.data.toList.drop 48 = dktX7_search_2 := dk_seg dksX7_search_1 24 rfl rfl
theorem dksX7_search_3 : cX7_search.data.toList.drop 72 = dktX7_search_3 := dk_seg dksX7_search_2 24 rfl rfl
theorem dksX7_search_4 : cX7_search.data.toList.drop 96 = dktX7_search_4 := dk_seg dksX7_search_3 24 rfl rfl
theorem dksX7_search_5 : cX7_search.data.toList.drop 119 = dktX7_search_5 := dk_seg dksX7_search_4 23 rfl rfl
theorem dksX7_search_6 : cX7_search.data.toList.drop 143 = dktX7_search_6 := dk_seg dksX7_search_5 24 rfl rfl
theorem dksX7_search_7 : cX7_search.data.toList.drop 167 = dktX7_search_7 := dk_seg dksX7_search_6 24 rfl rfl
theorem dksX7_search_8 : cX7_search.data.toList.drop 190 = dktX7_search_8 := dk_seg dksX7_search_7 23 rfl rfl
theorem dksX7_search_9 : cX7_search.data.toList.drop 213 = dktX7_search_9 := dk_seg dksX7_search_8 23 rfl rfl
theorem dX7_search_0 : decode cX7_search 0 = .ok (.iload_n 1, 1) := dk_27 (dk_at dksX7_search_0 0 rfl rfl)
theorem dX7_search_1 : decode cX7_search 1 = .ok (.iconst 2, 1) := dk_5 (dk_at dksX7_search_0 1 rfl rfl)
theorem dX7_search_2 : decode cX7_search 2 = .ok (.bipush 6, 2) := dk_16 6 (dk_at dksX7_search_0 2 rfl rfl)
theorem dX7_search_4 : decode cX7_search 4 = .ok (.invokestatic 111, 3) := dk_184 0 111 (dk_at dksX7_search_0 4 rfl rfl)
theorem dX7_search_7 : decode cX7_search 7 = .ok (.ifCond .eq 15, 3) := dk_153 0 15 (dk_at dksX7_search_0 7 rfl rfl)
theorem dX7_search_10 : decode cX7_search 10 = .ok (.iload_n 1, 1) := dk_27 (dk_at dksX7_search_0 10 rfl rfl)
theorem dX7_search_11 : decode cX7_search 11 = .ok (.iload_n 1, 1) := dk_27 (dk_at dksX7_search_0 11 rfl rfl)
theorem dX7_search_12 : decode cX7_search 12 = .ok (.iload_n 1, 1) := dk_27 (dk_at dksX7_search_0 12 rfl rfl)
theorem dX7_search_13 : decode cX7_search 13 = .ok (.imul, 1) := dk_104 (dk_at dksX7_search_0 13 rfl rfl)
theorem dX7_search_14 : decode cX7_search 14 = .ok (.iadd, 1) := dk_96 (dk_at dksX7_search_0 14 rfl rfl)
theorem dX7_search_15 : decode cX7_search 15 = .ok (.aload_n 0, 1) := dk_42 (dk_at dksX7_search_0 15 rfl rfl)
theorem dX7_search_16 : decode cX7_search 16 = .ok (.getfield 126, 3) := dk_180 0 126 (dk_at dksX7_search_0 16 rfl rfl)
theorem dX7_search_19 : decode cX7_search 19 = .ok (.if_icmp .le 5, 3) := dk_164 0 5 (dk_at dksX7_search_0 19 rfl rfl)
theorem dX7_search_22 : decode cX7_search 22 = .ok (.iconst (-1), 1) := dk_2 (dk_at dksX7_search_0 22 rfl rfl)
theorem dX7_search_23 : decode cX7_search 23 = .ok (.ireturn, 1) := dk_172 (dk_at dksX7_search_0 23 rfl rfl)
theorem dX7_search_24 : decode cX7_search 24 = .ok (.aload_n 0, 1) := dk_42 (dk_at dksX7_search_1 0 rfl rfl)
theorem dX7_search_25 : decode cX7_search 25 = .ok (.iconst 0, 1) := dk_3 (dk_at dksX7_search_1 1 rfl rfl)
theorem dX7_search_26 : decode cX7_search 26 = .ok (.putfield 126, 3) := dk_181 0 126 (dk_at dksX7_search_1 2 rfl rfl)
theorem dX7_search_29 : decode cX7_search 29 = .ok (.aload_n 0, 1) := dk_42 (dk_at dksX7_search_1 5 rfl rfl)
theorem dX7_search_30 : decode cX7_search 30 = .ok (.iload_n 1, 1) := dk_27 (dk_at dksX7_search_1 6 rfl rfl)
theorem dX7_search_31 : decode cX7_search 31 = .ok (.invokevirtual 358, 3) := dk_182 1 102 (dk_at dksX7_search_1 7 rfl rfl)
theorem dX7_search_34 : decode cX7_search 34 = .ok (.ifCond .ne 6, 3) := dk_154 0 6 (dk_at dksX7_search_1 10 rfl rfl)
theorem dX7_search_37 : decode cX7_search 37 = .ok (.bipush (-2), 2) := dk_16 254 (dk_at dksX7_search_1 13 rfl rfl)
theorem dX7_search_39 : decode cX7_search 39 = .ok (.ireturn, 1) := dk_172 (dk_at dksX7_search_1 15 rfl rfl)
theorem dX7_search_40 : decode cX7_search 40 = .ok (.iload_n 2, 1) := dk_28 (dk_at dksX7_search_1 16 rfl rfl)
theorem dX7_search_41 : decode cX7_search 41 = .ok (.bipush 20, 2) := dk_16 20 (dk_at dksX7_search_1 17 rfl rfl)
theorem dX7_search_43 : decode cX7_search 43 = .ok (.bipush 21, 2) := dk_16 21 (dk_at dksX7_search_1 19 rfl rfl)
theorem dX7_search_45 : decode cX7_search 45 = .ok (.invokestatic 111, 3) := dk_184 0 111 (dk_at dksX7_search_1 21 rfl rfl)
theorem dX7_search_48 : decode cX7_search 48 = .ok (.ifCond .ne 17, 3) := dk_154 0 17 (dk_at dksX7_search_2 0 rfl rfl)
theorem dX7_search_51 : decode cX7_search 51 = .ok (.iload_n 2, 1) := dk_28 (dk_at dksX7_search_2 3 rfl rfl)
theorem dX7_search_52 : decode cX7_search 52 = .ok (.iconst 0, 1) := dk_3 (dk_at dksX7_search_2 4 rfl rfl)
theorem dX7_search_53 : decode cX7_search 53 = .ok (.iload_n 1, 1) := dk_27 (dk_at dksX7_search_2 5 rfl rfl)
theorem dX7_search_54 : decode cX7_search 54 = .ok (.iconst 1, 1) := dk_4 (dk_at dksX7_search_2 6 rfl rfl)
theorem dX7_search_55 : decode cX7_search 55 = .ok (.isub, 1) := dk_100 (dk_at dksX7_search_2 7 rfl rfl)
theorem dX7_search_56 : decode cX7_search 56 = .ok (.invokestatic 111, 3) := dk_184 0 111 (dk_at dksX7_search_2 8 rfl rfl)
theorem dX7_search_59 : decode cX7_search 59 = .ok (.ifCond .ne 6, 3) := dk_154 0 6 (dk_at dksX7_search_2 11 rfl rfl)
theorem dX7_search_62 : decode cX7_search 62 = .ok (.bipush (-3), 2) := dk_16 253 (dk_at dksX7_search_2 14 rfl rfl)
theorem dX7_search_64 : decode cX7_search 64 = .ok (.ireturn, 1) := dk_172 (dk_at dksX7_search_2 16 rfl rfl)
theorem dX7_search_65 : decode cX7_search 65 = .ok (.iconst 1, 1) := dk_4 (dk_at dksX7_search_2 17 rfl rfl)
theorem dX7_search_66 : decode cX7_search 66 = .ok (.istore_n 3, 1) := dk_62 (dk_at dksX7_search_2 18 rfl rfl)
theorem dX7_search_67 : decode cX7_search 67 = .ok (.iconst 1, 1) := dk_4 (dk_at dksX7_search_2 19 rfl rfl)
theorem dX7_search_68 : decode cX7_search 68 = .ok (.istore 4, 2) := dk_54 4 (dk_at dksX7_search_2 20 rfl rfl)
theorem dX7_search_70 : decode cX7_search 70 = .ok (.iload 4, 2) := dk_21 4 (dk_at dksX7_search_2 22 rfl rfl)
theorem dX7_search_72 : decode cX7_search 72 = .ok (.iload_n 1, 1) := dk_27 (dk_at dksX7_search_3 0 rfl rfl)
theorem dX7_search_73 : decode cX7_search 73 = .ok (.if_icmp .ge 13, 3) := dk_162 0 13 (dk_at dksX7_search_3 1 rfl rfl)
theorem dX7_search_76 : decode cX7_search 76 = .ok (.iload_n 3, 1) := dk_29 (dk_at dksX7_search_3 4 rfl rfl)
theorem dX7_search_77 : decode cX7_search 77 = .ok (.iload_n 1, 1) := dk_27 (dk_at dksX7_search_3 5 rfl rfl)
theorem dX7_search_78 : decode cX7_search 78 = .ok (.imul, 1) := dk_104 (dk_at dksX7_search_3 6 rfl rfl)
theorem dX7_search_79 : decode cX7_search 79 = .ok (.istore_n 3, 1) := dk_62 (dk_at dksX7_search_3 7 rfl rfl)
theorem dX7_search_80 : decode cX7_search 80 = .ok (.iinc 4 1, 3) := dk_132 4 1 (dk_at dksX7_search_3 8 rfl rfl)
theorem dX7_search_83 : decode cX7_search 83 = .ok (.goto (-13), 3) := dk_167 255 243 (dk_at dksX7_search_3 11 rfl rfl)
theorem dX7_search_86 : decode cX7_search 86 = .ok (.iconst (-1), 1) := dk_2 (dk_at dksX7_search_3 14 rfl rfl)
theorem dX7_search_87 : decode cX7_search 87 = .ok (.istore 4, 2) := dk_54 4 (dk_at dksX7_search_3 15 rfl rfl)
theorem dX7_search_89 : decode cX7_search 89 = .ok (.ldc 245, 2) := dk_18 245 (dk_at dksX7_search_3 17 rfl rfl)
theorem dX7_search_91 : decode cX7_search 91 = .ok (.istore 5, 2) := dk_54 5 (dk_at dksX7_search_3 19 rfl rfl)
theorem dX7_search_93 : decode cX7_search 93 = .ok (.iconst 0, 1) := dk_3 (dk_at dksX7_search_3 21 rfl rfl)
theorem dX7_search_94 : decode cX7_search 94 = .ok (.istore 6, 2) := dk_54 6 (dk_at dksX7_search_3 22 rfl rfl)
theorem dX7_search_96 : decode cX7_search 96 = .ok (.iload 6, 2) := dk_21 6 (dk_at dksX7_search_4 0 rfl rfl)
theorem dX7_search_98 : decode cX7_search 98 = .ok (.iload_n 3, 1) := dk_29 (dk_at dksX7_search_4 2 rfl rfl)
theorem dX7_search_99 : decode cX7_search 99 = .ok (.if_icmp .ge 43, 3) := dk_162 0 43 (dk_at dksX7_search_4 3 rfl rfl)
theorem dX7_search_102 : decode cX7_search 102 = .ok (.aload_n 0, 1) := dk_42 (dk_at dksX7_search_4 6 rfl rfl)
theorem dX7_search_103 : decode cX7_search 103 = .ok (.iload_n 1, 1) := dk_27 (dk_at dksX7_search_4 7 rfl rfl)
theorem dX7_search_104 : decode cX7_search 104 = .ok (.iload 6, 2) := dk_21 6 (dk_at dksX7_search_4 8 rfl rfl)
theorem dX7_search_106 : decode cX7_search 106 = .ok (.invokevirtual 361, 3) := dk_182 1 105 (dk_at dksX7_search_4 10 rfl rfl)
theorem dX7_search_109 : decode cX7_search 109 = .ok (.ifCond .eq 27, 3) := dk_153 0 27 (dk_at dksX7_search_4 13 rfl rfl)
theorem dX7_search_112 : decode cX7_search 112 = .ok (.aload_n 0, 1) := dk_42 (dk_at dksX7_search_4 16 rfl rfl)
theorem dX7_search_113 : decode cX7_search 113 = .ok (.iload_n 1, 1) := dk_27 (dk_at dksX7_search_4 17 rfl rfl)
theorem dX7_search_114 : decode cX7_search 114 = .ok (.invokevirtual 364, 3) := dk_182 1 108 (dk_at dksX7_search_4 18 rfl rfl)
theorem dX7_search_117 : decode cX7_search 117 = .ok (.iload 5, 2) := dk_21 5 (dk_at dksX7_search_4 21 rfl rfl)
theorem dX7_search_119 : decode cX7_search 119 = .ok (.if_icmp .lt 6, 3) := dk_161 0 6 (dk_at dksX7_search_5 0 rfl rfl)
theorem dX7_search_122 : decode cX7_search 122 = .ok (.goto 14, 3) := dk_167 0 14 (dk_at dksX7_search_5 3 rfl rfl)
theorem dX7_search_125 : decode cX7_search 125 = .ok (.aload_n 0, 1) := dk_42 (dk_at dksX7_search_5 6 rfl rfl)
theorem dX7_search_126 : decode cX7_search 126 = .ok (.iload_n 1, 1) := dk_27 (dk_at dksX7_search_5 7 rfl rfl)
theorem dX7_search_127 : decode cX7_search 127 = .ok (.invokevirtual 364, 3) := dk_182 1 108 (dk_at dksX7_search_5 8 rfl rfl)
theorem dX7_search_130 : decode cX7_search 130 = .ok (.istore 5, 2) := dk_54 5 (dk_at dksX7_search_5 11 rfl rfl)
theorem dX7_search_132 : decode cX7_search 132 = .ok (.iload 6, 2) := dk_21 6 (dk_at dksX7_search_5 13 rfl rfl)
theorem dX7_search_134 : decode cX7_search 134 = .ok (.istore 4, 2) := dk_54 4 (dk_at dksX7_search_5 15 rfl rfl)
theorem dX7_search_136 : decode cX7_search 136 = .ok (.iinc 6 1, 3) := dk_132 6 1 (dk_at dksX7_search_5 17 rfl rfl)
theorem dX7_search_139 : decode cX7_search 139 = .ok (.goto (-43), 3) := dk_167 255 213 (dk_at dksX7_search_5 20 rfl rfl)
theorem dX7_search_142 : decode cX7_search 142 = .ok (.aload_n 0, 1) := dk_42 (dk_at dksX7_search_5 23 rfl rfl)
theorem dX7_search_143 : decode cX7_search 143 = .ok (.iload_n 1, 1) := dk_27 (dk_at dksX7_search_6 0 rfl rfl)
theorem dX7_search_144 : decode cX7_search 144 = .ok (.iload 4, 2) := dk_21 4 (dk_at dksX7_search_6 1 rfl rfl)
theorem dX7_search_146 : decode cX7_search 146 = .ok (.invokevirtual 361, 3) := dk_182 1 105 (dk_at dksX7_search_6 3 rfl rfl)
theorem dX7_search_149 : decode cX7_search 149 = .ok (.pop, 1) := dk_87 (dk_at dksX7_search_6 6 rfl rfl)
theorem dX7_search_150 : decode cX7_search 150 = .ok (.iload_n 2, 1) := dk_28 (dk_at dksX7_search_6 7 rfl rfl)
theorem dX7_search_151 : decode cX7_search 151 = .ok (.bipush 20, 2) := dk_16 20 (dk_at dksX7_search_6 8 rfl rfl)
theorem dX7_search_153 : decode cX7_search 153 = .ok (.if_icmp .ge 10, 3) := dk_162 0 10 (dk_at dksX7_search_6 10 rfl rfl)
theorem dX7_search_156 : decode cX7_search 156 = .ok (.aload_n 0, 1) := dk_42 (dk_at dksX7_search_6 13 rfl rfl)
theorem dX7_search_157 : decode cX7_search 157 = .ok (.getfield 87, 3) := dk_180 0 87 (dk_at dksX7_search_6 14 rfl rfl)
theorem dX7_search_160 : decode cX7_search 160 = .ok (.iload_n 2, 1) := dk_28 (dk_at dksX7_search_6 17 rfl rfl)
theorem dX7_search_161 : decode cX7_search 161 = .ok (.iaload, 1) := dk_46 (dk_at dksX7_search_6 18 rfl rfl)
theorem dX7_search_162 : decode cX7_search 162 = .ok (.ireturn, 1) := dk_172 (dk_at dksX7_search_6 19 rfl rfl)
theorem dX7_search_163 : decode cX7_search 163 = .ok (.iconst 0, 1) := dk_3 (dk_at dksX7_search_6 20 rfl rfl)
theorem dX7_search_164 : decode cX7_search 164 = .ok (.istore 6, 2) := dk_54 6 (dk_at dksX7_search_6 21 rfl rfl)
theorem dX7_search_166 : decode cX7_search 166 = .ok (.iconst 0, 1) := dk_3 (dk_at dksX7_search_6 23 rfl rfl)
theorem dX7_search_167 : decode cX7_search 167 = .ok (.istore 7, 2) := dk_54 7 (dk_at dksX7_search_7 0 rfl rfl)
theorem dX7_search_169 : decode cX7_search 169 = .ok (.iload 7, 2) := dk_21 7 (dk_at dksX7_search_7 2 rfl rfl)
theorem dX7_search_171 : decode cX7_search 171 = .ok (.iload_n 1, 1) := dk_27 (dk_at dksX7_search_7 4 rfl rfl)
theorem dX7_search_172 : decode cX7_search 172 = .ok (.if_icmp .ge 21, 3) := dk_162 0 21 (dk_at dksX7_search_7 5 rfl rfl)
theorem dX7_search_175 : decode cX7_search 175 = .ok (.iload 6, 2) := dk_21 6 (dk_at dksX7_search_7 8 rfl rfl)
theorem dX7_search_177 : decode cX7_search 177 = .ok (.aload_n 0, 1) := dk_42 (dk_at dksX7_search_7 10 rfl rfl)
theorem dX7_search_178 : decode cX7_search 178 = .ok (.getfield 19, 3) := dk_180 0 19 (dk_at dksX7_search_7 11 rfl rfl)
theorem dX7_search_181 : decode cX7_search 181 = .ok (.iload 7, 2) := dk_21 7 (dk_at dksX7_search_7 14 rfl rfl)
theorem dX7_search_183 : decode cX7_search 183 = .ok (.baload, 1) := dk_51 (dk_at dksX7_search_7 16 rfl rfl)
theorem dX7_search_184 : decode cX7_search 184 = .ok (.iadd, 1) := dk_96 (dk_at dksX7_search_7 17 rfl rfl)
theorem dX7_search_185 : decode cX7_search 185 = .ok (.istore 6, 2) := dk_54 6 (dk_at dksX7_search_7 18 rfl rfl)
theorem dX7_search_187 : decode cX7_search 187 = .ok (.iinc 7 1, 3) := dk_132 7 1 (dk_at dksX7_search_7 20 rfl rfl)
theorem dX7_search_190 : decode cX7_search 190 = .ok (.goto (-21), 3) := dk_167 255 235 (dk_at dksX7_search_8 0 rfl rfl)
theorem dX7_search_193 : decode cX7_search 193 = .ok (.iload 5, 2) := dk_21 5 (dk_at dksX7_search_8 3 rfl rfl)
theorem dX7_search_195 : decode cX7_search 195 = .ok (.iload 6, 2) := dk_21 6 (dk_at dksX7_search_8 5 rfl rfl)
theorem dX7_search_197 : decode cX7_search 197 = .ok (.invokestatic 367, 3) := dk_184 1 111 (dk_at dksX7_search_8 7 rfl rfl)
theorem dX7_search_200 : decode cX7_search 200 = .ok (.istore 7, 2) := dk_54 7 (dk_at dksX7_search_8 10 rfl rfl)
theorem dX7_search_202 : decode cX7_search 202 = .ok (.iload_n 2, 1) := dk_28 (dk_at dksX7_search_8 12 rfl rfl)
theorem dX7_search_203 : decode cX7_search 203 = .ok (.bipush 20, 2) := dk_16 20 (dk_at dksX7_search_8 13 rfl rfl)
theorem dX7_search_205 : decode cX7_search 205 = .ok (.if_icmp .ne 11, 3) := dk_160 0 11 (dk_at dksX7_search_8 15 rfl rfl)
theorem dX7_search_208 : decode cX7_search 208 = .ok (.iload 5, 2) := dk_21 5 (dk_at dksX7_search_8 18 rfl rfl)
theorem dX7_search_210 : decode cX7_search 210 = .ok (.iload 7, 2) := dk_21 7 (dk_at dksX7_search_8 20 rfl rfl)
theorem dX7_search_212 : decode cX7_search 212 = .ok (.idiv, 1) := dk_108 (dk_at dksX7_search_8 22 rfl rfl)
theorem dX7_search_213 : decode cX7_search 213 = .ok (.goto 8, 3) := dk_167 0 8 (dk_at dksX7_search_9 0 rfl rfl)
theorem dX7_search_216 : decode cX7_search 216 = .ok (.iload 6, 2) := dk_21 6 (dk_at dksX7_search_9 3 rfl rfl)
theorem dX7_search_218 : decode cX7_search 218 = .ok (.iload 7, 2) := dk_21 7 (dk_at dksX7_search_9 5 rfl rfl)
theorem dX7_search_220 : decode cX7_search 220 = .ok (.idiv, 1) := dk_108 (dk_at dksX7_search_9 7 rfl rfl)
theorem dX7_search_221 : decode cX7_search 221 = .ok (.ireturn, 1) := dk_172 (dk_at dksX7_search_9 8 rfl rfl)
abbrev cX7_areBounds : ByteArray := prog_21_method_85_code
def yX7_areBounds : MethodName := ⟨RX7, "areBounds", "(I)Z"⟩
def dkwX7_areBounds_4 : List UInt8 := [167, 255, 203, 28, 158, 0, 7, 4, 167, 0, 4, 3, 172]
abbrev dktX7_areBounds_4 : List UInt8 := dkwX7_areBounds_4 ++ []
def dkwX7_areBounds_3 : List UInt8 := [21, 4, 96, 51, 4, 16, 20, 184, 0, 111, 154, 0, 5, 3, 172, 132, 4, 1, 167, 255, 217, 132, 3, 1]
abbrev dktX7_areBounds_3 : List UInt8 := dkwX7_areBounds_3 ++ dktX7_areBounds_4
def dkwX7_areBounds_2 : List UInt8 := [3, 54, 4, 21, 4, 27, 162, 0, 39, 29, 21, 4, 159, 0, 27, 42, 180, 0, 19, 27, 27, 29, 104, 96]
abbrev dktX7_areBounds_2 : List UInt8 := dkwX7_areBounds_2 ++ dktX7_areBounds_3
def dkwX7_areBounds_1 : List UInt8 := [3, 172, 28, 42, 180, 0, 19, 29, 51, 96, 61, 132, 3, 1, 167, 255, 222, 3, 62, 29, 27, 162, 0, 54]
abbrev dktX7_areBounds_1 : List UInt8 := dkwX7_areBounds_1 ++ dktX7_areBounds_2
def dkwX7_areBounds_0 : List UInt8 := [3, 61, 3, 62, 29, 27, 162, 0, 35, 42, 180, 0, 19, 29, 51, 3, 16, 99, 184, 0, 111, 154, 0, 5]
abbrev dktX7_areBounds_0 : List UInt8 := dkwX7_areBounds_0 ++ dktX7_areBounds_1
theorem dksX7_areBounds_0 : cX7_areBounds.data.toList.drop 0 = dktX7_areBounds_0 := by decide +kernel
theorem dksX7_areBounds_1 : cX7_areBounds.data.toList.drop 24 = dktX7_areBounds_1 := dk_seg dksX7_areBounds_0 24 rfl rfl
theorem dksX7_areBounds_2 : cX7_areBounds.data.toList.drop 48 = dktX7_areBounds_2 := dk_seg dksX7_areBounds_1 24 rfl rfl
theorem dksX7_areBounds_3 : cX7_areBounds.data.toList.drop 72 = dktX7_areBounds_3 := dk_seg dksX7_areBounds_2 24 rfl rfl
theorem dksX7_areBounds_4 : cX7_areBounds.data.toList.drop 96 = dktX7_areBounds_4 := dk_seg dksX7_areBounds_3 24 rfl rfl
theorem dX7_areBounds_0 : decode cX7_areBounds 0 = .ok (.iconst 0, 1) := dk_3 (dk_at dksX7_areBounds_0 0 rfl rfl)
theorem dX7_areBounds_1 : decode cX7_areBounds 1 = .ok (.istore_n 2, 1) := dk_61 (dk_at dksX7_areBounds_0 1 rfl rfl)
theorem dX7_areBounds_2 : decode cX7_areBounds 2 = .ok (.iconst 0, 1) := dk_3 (dk_at dksX7_areBounds_0 2 rfl rfl)
theorem dX7_areBounds_3 : decode cX7_areBounds 3 = .ok (.istore_n 3, 1) := dk_62 (dk_at dksX7_areBounds_0 3 rfl rfl)
theorem dX7_areBounds_4 : decode cX7_areBounds 4 = .ok (.iload_n 3, 1) := dk_29 (dk_at dksX7_areBounds_0 4 rfl rfl)
theorem dX7_areBounds_5 : decode cX7_areBounds 5 = .ok (.iload_n 1, 1) := dk_27 (dk_at dksX7_areBounds_0 5 rfl rfl)
theorem dX7_areBounds_6 : decode cX7_areBounds 6 = .ok (.if_icmp .ge 35, 3) := dk_162 0 35 (dk_at dksX7_areBounds_0 6 rfl rfl)
theorem dX7_areBounds_9 : decode cX7_areBounds 9 = .ok (.aload_n 0, 1) := dk_42 (dk_at dksX7_areBounds_0 9 rfl rfl)
theorem dX7_areBounds_10 : decode cX7_areBounds 10 = .ok (.getfield 19, 3) := dk_180 0 19 (dk_at dksX7_areBounds_0 10 rfl rfl)
theorem dX7_areBounds_13 : decode cX7_areBounds 13 = .ok (.iload_n 3, 1) := dk_29 (dk_at dksX7_areBounds_0 13 rfl rfl)
theorem dX7_areBounds_14 : decode cX7_areBounds 14 = .ok (.baload, 1) := dk_51 (dk_at dksX7_areBounds_0 14 rfl rfl)
theorem dX7_areBounds_15 : decode cX7_areBounds 15 = .ok (.iconst 0, 1) := dk_3 (dk_at dksX7_areBounds_0 15 rfl rfl)
theorem dX7_areBounds_16 : decode cX7_areBounds 16 = .ok (.bipush 99, 2) := dk_16 99 (dk_at dksX7_areBounds_0 16 rfl rfl)
theorem dX7_areBounds_18 : decode cX7_areBounds 18 = .ok (.invokestatic 111, 3) := dk_184 0 111 (dk_at dksX7_areBounds_0 18 rfl rfl)
theorem dX7_areBounds_21 : decode cX7_areBounds 21 = .ok (.ifCond .ne 5, 3) := dk_154 0 5 (dk_at dksX7_areBounds_0 21 rfl rfl)
theorem dX7_areBounds_24 : decode cX7_areBounds 24 = .ok (.iconst 0, 1) := dk_3 (dk_at dksX7_areBounds_1 0 rfl rfl)
theorem dX7_areBounds_25 : decode cX7_areBounds 25 = .ok (.ireturn, 1) := dk_172 (dk_at dksX7_areBounds_1 1 rfl rfl)
theorem dX7_areBounds_26 : decode cX7_areBounds 26 = .ok (.iload_n 2, 1) := dk_28 (dk_at dksX7_areBounds_1 2 rfl rfl)
theorem dX7_areBounds_27 : decode cX7_areBounds 27 = .ok (.aload_n 0, 1) := dk_42 (dk_at dksX7_areBounds_1 3 rfl rfl)
theorem dX7_areBounds_28 : decode cX7_areBounds 28 = .ok (.getfield 19, 3) := dk_180 0 19 (dk_at dksX7_areBounds_1 4 rfl rfl)
theorem dX7_areBounds_31 : decode cX7_areBounds 31 = .ok (.iload_n 3, 1) := dk_29 (dk_at dksX7_areBounds_1 7 rfl rfl)
theorem dX7_areBounds_32 : decode cX7_areBounds 32 = .ok (.baload, 1) := dk_51 (dk_at dksX7_areBounds_1 8 rfl rfl)
theorem dX7_areBounds_33 : decode cX7_areBounds 33 = .ok (.iadd, 1) := dk_96 (dk_at dksX7_areBounds_1 9 rfl rfl)
theorem dX7_areBounds_34 : decode cX7_areBounds 34 = .ok (.istore_n 2, 1) := dk_61 (dk_at dksX7_areBounds_1 10 rfl rfl)
theorem dX7_areBounds_35 : decode cX7_areBounds 35 = .ok (.iinc 3 1, 3) := dk_132 3 1 (dk_at dksX7_areBounds_1 11 rfl rfl)
theorem dX7_areBounds_38 : decode cX7_areBounds 38 = .ok (.goto (-34), 3) := dk_167 255 222 (dk_at dksX7_areBounds_1 14 rfl rfl)
theorem dX7_areBounds_41 : decode cX7_areBounds 41 = .ok (.iconst 0, 1) := dk_3 (dk_at dksX7_areBounds_1 17 rfl rfl)
theorem dX7_areBounds_42 : decode cX7_areBounds 42 = .ok (.istore_n 3, 1) := dk_62 (dk_at dksX7_areBounds_1 18 rfl rfl)
theorem dX7_areBounds_43 : decode cX7_areBounds 43 = .ok (.iload_n 3, 1) := dk_29 (dk_at dksX7_areBounds_1 19 rfl rfl)
theorem dX7_areBounds_44 : decode cX7_areBounds 44 = .ok (.iload_n 1, 1) := dk_27 (dk_at dksX7_areBounds_1 20 rfl rfl)
theorem dX7_areBounds_45 : decode cX7_areBounds 45 = .ok (.if_icmp .ge 54, 3) := dk_162 0 54 (dk_at dksX7_areBounds_1 21 rfl rfl)
theorem dX7_areBounds_48 : decode cX7_areBounds 48 = .ok (.iconst 0, 1) := dk_3 (dk_at dksX7_areBounds_2 0 rfl rfl)
theorem dX7_areBounds_49 : decode cX7_areBounds 49 = .ok (.istore 4, 2) := dk_54 4 (dk_at dksX7_areBounds_2 1 rfl rfl)
theorem dX7_areBounds_51 : decode cX7_areBounds 51 = .ok (.iload 4, 2) := dk_21 4 (dk_at dksX7_areBounds_2 3 rfl rfl)
theorem dX7_areBounds_53 : decode cX7_areBounds 53 = .ok (.iload_n 1, 1) := dk_27 (dk_at dksX7_areBounds_2 5 rfl rfl)
theorem dX7_areBounds_54 : decode cX7_areBounds 54 = .ok (.if_icmp .ge 39, 3) := dk_162 0 39 (dk_at dksX7_areBounds_2 6 rfl rfl)
theorem dX7_areBounds_57 : decode cX7_areBounds 57 = .ok (.iload_n 3, 1) := dk_29 (dk_at dksX7_areBounds_2 9 rfl rfl)
theorem dX7_areBounds_58 : decode cX7_areBounds 58 = .ok (.iload 4, 2) := dk_21 4 (dk_at dksX7_areBounds_2 10 rfl rfl)
theorem dX7_areBounds_60 : decode cX7_areBounds 60 = .ok (.if_icmp .eq 27, 3) := dk_159 0 27 (dk_at dksX7_areBounds_2 12 rfl rfl)
theorem dX7_areBounds_63 : decode cX7_areBounds 63 = .ok (.aload_n 0, 1) := dk_42 (dk_at dksX7_areBounds_2 15 rfl rfl)
theorem dX7_areBounds_64 : decode cX7_areBounds 64 = .ok (.getfield 19, 3) := dk_180 0 19 (dk_at dksX7_areBounds_2 16 rfl rfl)
theorem dX7_areBounds_67 : decode cX7_areBounds 67 = .ok (.iload_n 1, 1) := dk_27 (dk_at dksX7_areBounds_2 19 rfl rfl)
theorem dX7_areBounds_68 : decode cX7_areBounds 68 = .ok (.iload_n 1, 1) := dk_27 (dk_at dksX7_areBounds_2 20 rfl rfl)
theorem dX7_areBounds_69 : decode cX7_areBounds 69 = .ok (.iload_n 3, 1) := dk_29 (dk_at dksX7_areBounds_2 21 rfl rfl)
theorem dX7_areBounds_70 : decode cX7_areBounds 70 = .ok (.imul, 1) := dk_104 (dk_at dksX7_areBounds_2 22 rfl rfl)
theorem dX7_areBounds_71 : decode cX7_areBounds 71 = .ok (.iadd, 1) := dk_96 (dk_at dksX7_areBounds_2 23 rfl rfl)
theorem dX7_areBounds_72 : decode cX7_areBounds 72 = .ok (.iload 4, 2) := dk_21 4 (dk_at dksX7_areBounds_3 0 rfl rfl)
theorem dX7_areBounds_74 : decode cX7_areBounds 74 = .ok (.iadd, 1) := dk_96 (dk_at dksX7_areBounds_3 2 rfl rfl)
theorem dX7_areBounds_75 : decode cX7_areBounds 75 = .ok (.baload, 1) := dk_51 (dk_at dksX7_areBounds_3 3 rfl rfl)
theorem dX7_areBounds_76 : decode cX7_areBounds 76 = .ok (.iconst 1, 1) := dk_4 (dk_at dksX7_areBounds_3 4 rfl rfl)
theorem dX7_areBounds_77 : decode cX7_areBounds 77 = .ok (.bipush 20, 2) := dk_16 20 (dk_at dksX7_areBounds_3 5 rfl rfl)
theorem dX7_areBounds_79 : decode cX7_areBounds 79 = .ok (.invokestatic 111, 3) := dk_184 0 111 (dk_at dksX7_areBounds_3 7 rfl rfl)
theorem dX7_areBounds_82 : decode cX7_areBounds 82 = .ok (.ifCond .ne 5, 3) := dk_154 0 5 (dk_at dksX7_areBounds_3 10 rfl rfl)
theorem dX7_areBounds_85 : decode cX7_areBounds 85 = .ok (.iconst 0, 1) := dk_3 (dk_at dksX7_areBounds_3 13 rfl rfl)
theorem dX7_areBounds_86 : decode cX7_areBounds 86 = .ok (.ireturn, 1) := dk_172 (dk_at dksX7_areBounds_3 14 rfl rfl)
theorem dX7_areBounds_87 : decode cX7_areBounds 87 = .ok (.iinc 4 1, 3) := dk_132 4 1 (dk_at dksX7_areBounds_3 15 rfl rfl)
theorem dX7_areBounds_90 : decode cX7_areBounds 90 = .ok (.goto (-39), 3) := dk_167 255 217 (dk_at dksX7_areBounds_3 18 rfl rfl)
theorem dX7_areBounds_93 : decode cX7_areBounds 93 = .ok (.iinc 3 1, 3) := dk_132 3 1 (dk_at dksX7_areBounds_3 21 rfl rfl)
theorem dX7_areBounds_96 : decode cX7_areBounds 96 = .ok (.goto (-53), 3) := dk_167 255 203 (dk_at dksX7_areBounds_4 0 rfl rfl)
theorem dX7_areBounds_99 : decode cX7_areBounds 99 = .ok (.iload_n 2, 1) := dk_28 (dk_at dksX7_areBounds_4 3 rfl rfl)
theorem dX7_areBounds_100 : decode cX7_areBounds 100 = .ok (.ifCond .le 7, 3) := dk_158 0 7 (dk_at dksX7_areBounds_4 4 rfl rfl)
theorem dX7_areBounds_103 : decode cX7_areBounds 103 = .ok (.iconst 1, 1) := dk_4 (dk_at dksX7_areBounds_4 7 rfl rfl)
theorem dX7_areBounds_104 : decode cX7_areBounds 104 = .ok (.goto 4, 3) := dk_167 0 4 (dk_at dksX7_areBounds_4 8 rfl rfl)
theorem dX7_areBounds_107 : decode cX7_areBounds 107 = .ok (.iconst 0, 1) := dk_3 (dk_at dksX7_areBounds_4 11 rfl rfl)
theorem dX7_areBounds_108 : decode cX7_areBounds 108 = .ok (.ireturn, 1) := dk_172 (dk_at dksX7_areBounds_4 12 rfl rfl)
abbrev cX7_readsRow : ByteArray := prog_21_method_86_code
def yX7_readsRow : MethodName := ⟨RX7, "readsRow", "(II)Z"⟩
def dkwX7_readsRow_3 : List UInt8 := [132, 5, 255, 167, 255, 203, 4, 172]
abbrev dktX7_readsRow_3 : List UInt8 := dkwX7_readsRow_3 ++ []
def dkwX7_readsRow_2 : List UInt8 := [184, 0, 101, 153, 0, 5, 3, 172, 21, 4, 4, 42, 180, 0, 87, 21, 5, 46, 120, 128, 54, 4]
abbrev dktX7_readsRow_2 : List UInt8 := dkwX7_readsRow_2 ++ dktX7_readsRow_3
def dkwX7_readsRow_1 : List UInt8 := [180, 0, 87, 21, 5, 29, 27, 112, 79, 29, 27, 108, 62, 21, 4, 42, 180, 0, 87, 21, 5, 46]
abbrev dktX7_readsRow_1 : List UInt8 := dkwX7_readsRow_1 ++ dktX7_readsRow_2
def dkwX7_readsRow_0 : List UInt8 := [28, 62, 4, 54, 4, 42, 180, 0, 87, 3, 3, 79, 27, 4, 100, 54, 5, 21, 5, 158, 0, 54, 42]
abbrev dktX7_readsRow_0 : List UInt8 := dkwX7_readsRow_0 ++ dktX7_readsRow_1
theorem dksX7_readsRow_0 : cX7_readsRow.data.toList.drop 0 = dktX7_readsRow_0 := by decide +kernel
theorem dksX7_readsRow_1 : cX7_readsRow.data.toList.drop 23 = dktX7_readsRow_1 := dk_seg dksX7_readsRow_0 23 rfl rfl
theorem dksX7_readsRow_2 : cX7_readsRow.data.toList.drop 45 = dktX7_readsRow_2 := dk_seg dksX7_readsRow_1 22 rfl rfl
theorem dksX7_readsRow_3 : cX7_readsRow.data.toList.drop 67 = dktX7_readsRow_3 := dk_seg dksX7_readsRow_2 22 rfl rfl
theorem dX7_readsRow_0 : decode cX7_readsRow 0 = .ok (.iload_n 2, 1) := dk_28 (dk_at dksX7_readsRow_0 0 rfl rfl)
theorem dX7_readsRow_1 : decode cX7_readsRow 1 = .ok (.istore_n 3, 1) := dk_62 (dk_at dksX7_readsRow_0 1 rfl rfl)
theorem dX7_readsRow_2 : decode cX7_readsRow 2 = .ok (.iconst 1, 1) := dk_4 (dk_at dksX7_readsRow_0 2 rfl rfl)
theorem dX7_readsRow_3 : decode cX7_readsRow 3 = .ok (.istore 4, 2) := dk_54 4 (dk_at dksX7_readsRow_0 3 rfl rfl)
theorem dX7_readsRow_5 : decode cX7_readsRow 5 = .ok (.aload_n 0, 1) := dk_42 (dk_at dksX7_readsRow_0 5 rfl rfl)
theorem dX7_readsRow_6 : decode cX7_readsRow 6 = .ok (.getfield 87, 3) := dk_180 0 87 (dk_at dksX7_readsRow_0 6 rfl rfl)
theorem dX7_readsRow_9 : decode cX7_readsRow 9 = .ok (.iconst 0, 1) := dk_3 (dk_at dksX7_readsRow_0 9 rfl rfl)
theorem dX7_readsRow_10 : decode cX7_readsRow 10 = .ok (.iconst 0, 1) := dk_3 (dk_at dksX7_readsRow_0 10 rfl rfl)
theorem dX7_readsRow_11 : decode cX7_readsRow 11 = .ok (.iastore, 1) := dk_79 (dk_at dksX7_readsRow_0 11 rfl rfl)
theorem dX7_readsRow_12 : decode cX7_readsRow 12 = .ok (.iload_n 1, 1) := dk_27 (dk_at dksX7_readsRow_0 12 rfl rfl)
theorem dX7_readsRow_13 : decode cX7_readsRow 13 = .ok (.iconst 1, 1) := dk_4 (dk_at dksX7_readsRow_0 13 rfl rfl)
theorem dX7_readsRow_14 : decode cX7_readsRow 14 = .ok (.isub, 1) := dk_100 (dk_at dksX7_readsRow_0 14 rfl rfl)
theorem dX7_readsRow_15 : decode cX7_readsRow 15 = .ok (.istore 5, 2) := dk_54 5 (dk_at dksX7_readsRow_0 15 rfl rfl)
theorem dX7_readsRow_17 : decode cX7_readsRow 17 = .ok (.iload 5, 2) := dk_21 5 (dk_at dksX7_readsRow_0 17 rfl rfl)
theorem dX7_readsRow_19 : decode cX7_readsRow 19 = .ok (.ifCond .le 54, 3) := dk_158 0 54 (dk_at dksX7_readsRow_0 19 rfl rfl)
theorem dX7_readsRow_22 : decode cX7_readsRow 22 = .ok (.aload_n 0, 1) := dk_42 (dk_at dksX7_readsRow_0 22 rfl rfl)
theorem dX7_readsRow_23 : decode cX7_readsRow 23 = .ok (.getfield 87, 3) := dk_180 0 87 (dk_at dksX7_readsRow_1 0 rfl rfl)
theorem dX7_readsRow_26 : decode cX7_readsRow 26 = .ok (.iload 5, 2) := dk_21 5 (dk_at dksX7_readsRow_1 3 rfl rfl)
theorem dX7_readsRow_28 : decode cX7_readsRow 28 = .ok (.iload_n 3, 1) := dk_29 (dk_at dksX7_readsRow_1 5 rfl rfl)
theorem dX7_readsRow_29 : decode cX7_readsRow 29 = .ok (.iload_n 1, 1) := dk_27 (dk_at dksX7_readsRow_1 6 rfl rfl)
theorem dX7_readsRow_30 : decode cX7_readsRow 30 = .ok (.irem, 1) := dk_112 (dk_at dksX7_readsRow_1 7 rfl rfl)
theorem dX7_readsRow_31 : decode cX7_readsRow 31 = .ok (.iastore, 1) := dk_79 (dk_at dksX7_readsRow_1 8 rfl rfl)
theorem dX7_readsRow_32 : decode cX7_readsRow 32 = .ok (.iload_n 3, 1) := dk_29 (dk_at dksX7_readsRow_1 9 rfl rfl)
theorem dX7_readsRow_33 : decode cX7_readsRow 33 = .ok (.iload_n 1, 1) := dk_27 (dk_at dksX7_readsRow_1 10 rfl rfl)
theorem dX7_readsRow_34 : decode cX7_readsRow 34 = .ok (.idiv, 1) := dk_108 (dk_at dksX7_readsRow_1 11 rfl rfl)
theorem dX7_readsRow_35 : decode cX7_readsRow 35 = .ok (.istore_n 3, 1) := dk_62 (dk_at dksX7_readsRow_1 12 rfl rfl)
theorem dX7_readsRow_36 : decode cX7_readsRow 36 = .ok (.iload 4, 2) := dk_21 4 (dk_at dksX7_readsRow_1 13 rfl rfl)
theorem dX7_readsRow_38 : decode cX7_readsRow 38 = .ok (.aload_n 0, 1) := dk_42 (dk_at dksX7_readsRow_1 15 rfl rfl)
theorem dX7_readsRow_39 : decode cX7_readsRow 39 = .ok (.getfield 87, 3) := dk_180 0 87 (dk_at dksX7_readsRow_1 16 rfl rfl)
theorem dX7_readsRow_42 : decode cX7_readsRow 42 = .ok (.iload 5, 2) := dk_21 5 (dk_at dksX7_readsRow_1 19 rfl rfl)
theorem dX7_readsRow_44 : decode cX7_readsRow 44 = .ok (.iaload, 1) := dk_46 (dk_at dksX7_readsRow_1 21 rfl rfl)
theorem dX7_readsRow_45 : decode cX7_readsRow 45 = .ok (.invokestatic 101, 3) := dk_184 0 101 (dk_at dksX7_readsRow_2 0 rfl rfl)
theorem dX7_readsRow_48 : decode cX7_readsRow 48 = .ok (.ifCond .eq 5, 3) := dk_153 0 5 (dk_at dksX7_readsRow_2 3 rfl rfl)
theorem dX7_readsRow_51 : decode cX7_readsRow 51 = .ok (.iconst 0, 1) := dk_3 (dk_at dksX7_readsRow_2 6 rfl rfl)
theorem dX7_readsRow_52 : decode cX7_readsRow 52 = .ok (.ireturn, 1) := dk_172 (dk_at dksX7_readsRow_2 7 rfl rfl)
theorem dX7_readsRow_53 : decode cX7_readsRow 53 = .ok (.iload 4, 2) := dk_21 4 (dk_at dksX7_readsRow_2 8 rfl rfl)
theorem dX7_readsRow_55 : decode cX7_readsRow 55 = .ok (.iconst 1, 1) := dk_4 (dk_at dksX7_readsRow_2 10 rfl rfl)
theorem dX7_readsRow_56 : decode cX7_readsRow 56 = .ok (.aload_n 0, 1) := dk_42 (dk_at dksX7_readsRow_2 11 rfl rfl)
theorem dX7_readsRow_57 : decode cX7_readsRow 57 = .ok (.getfield 87, 3) := dk_180 0 87 (dk_at dksX7_readsRow_2 12 rfl rfl)
theorem dX7_readsRow_60 : decode cX7_readsRow 60 = .ok (.iload 5, 2) := dk_21 5 (dk_at dksX7_readsRow_2 15 rfl rfl)
theorem dX7_readsRow_62 : decode cX7_readsRow 62 = .ok (.iaload, 1) := dk_46 (dk_at dksX7_readsRow_2 17 rfl rfl)
theorem dX7_readsRow_63 : decode cX7_readsRow 63 = .ok (.ishl, 1) := dk_120 (dk_at dksX7_readsRow_2 18 rfl rfl)
theorem dX7_readsRow_64 : decode cX7_readsRow 64 = .ok (.ior, 1) := dk_128 (dk_at dksX7_readsRow_2 19 rfl rfl)
theorem dX7_readsRow_65 : decode cX7_readsRow 65 = .ok (.istore 4, 2) := dk_54 4 (dk_at dksX7_readsRow_2 20 rfl rfl)
theorem dX7_readsRow_67 : decode cX7_readsRow 67 = .ok (.iinc 5 (-1), 3) := dk_132 5 255 (dk_at dksX7_readsRow_3 0 rfl rfl)
theorem dX7_readsRow_70 : decode cX7_readsRow 70 = .ok (.goto (-53), 3) := dk_167 255 203 (dk_at dksX7_readsRow_3 3 rfl rfl)
theorem dX7_readsRow_73 : decode cX7_readsRow 73 = .ok (.iconst 1, 1) := dk_4 (dk_at dksX7_readsRow_3 6 rfl rfl)
theorem dX7_readsRow_74 : decode cX7_readsRow 74 = .ok (.ireturn, 1) := dk_172 (dk_at dksX7_readsRow_3 7 rfl rfl)
abbrev cX7_sumBy : ByteArray := prog_21_method_87_code
def yX7_sumBy : MethodName := ⟨RX7, "sumBy", "(I)I"⟩
def dkwX7_sumBy_2 : List UInt8 := [42, 180, 0, 87, 21, 4, 46, 51, 104, 96, 62, 132, 4, 1, 167, 255, 201, 29, 172]
abbrev dktX7_sumBy_2 : List UInt8 := dkwX7_sumBy_2 ++ []
def dkwX7_sumBy_1 : List UInt8 := [21, 4, 4, 100, 46, 104, 96, 42, 180, 0, 87, 21, 4, 46, 96, 51, 96, 61, 29, 28, 42, 180, 0, 19]
abbrev dktX7_sumBy_1 : List UInt8 := dkwX7_sumBy_1 ++ dktX7_sumBy_2
def dkwX7_sumBy_0 : List UInt8 := [3, 61, 3, 62, 4, 54, 4, 21, 4, 27, 162, 0, 55, 28, 42, 180, 0, 19, 27, 27, 42, 180, 0, 87]
abbrev dktX7_sumBy_0 : List UInt8 := dkwX7_sumBy_0 ++ dktX7_sumBy_1
theorem dksX7_sumBy_0 : cX7_sumBy.data.toList.drop 0 = dktX7_sumBy_0 := by decide +kernel
theorem dksX7_sumBy_1 : cX7_sumBy.data.toList.drop 24 = dktX7_sumBy_1 := dk_seg dksX7_sumBy_0 24 rfl rfl
theorem dksX7_sumBy_2 : cX7_sumBy.data.toList.drop 48 = dktX7_sumBy_2 := dk_seg dksX7_sumBy_1 24 rfl rfl
theorem dX7_sumBy_0 : decode cX7_sumBy 0 = .ok (.iconst 0, 1) := dk_3 (dk_at dksX7_sumBy_0 0 rfl rfl)
theorem dX7_sumBy_1 : decode cX7_sumBy 1 = .ok (.istore_n 2, 1) := dk_61 (dk_at dksX7_sumBy_0 1 rfl rfl)
theorem dX7_sumBy_2 : decode cX7_sumBy 2 = .ok (.iconst 0, 1) := dk_3 (dk_at dksX7_sumBy_0 2 rfl rfl)
theorem dX7_sumBy_3 : decode cX7_sumBy 3 = .ok (.istore_n 3, 1) := dk_62 (dk_at dksX7_sumBy_0 3 rfl rfl)
theorem dX7_sumBy_4 : decode cX7_sumBy 4 = .ok (.iconst 1, 1) := dk_4 (dk_at dksX7_sumBy_0 4 rfl rfl)
theorem dX7_sumBy_5 : decode cX7_sumBy 5 = .ok (.istore 4, 2) := dk_54 4 (dk_at dksX7_sumBy_0 5 rfl rfl)
theorem dX7_sumBy_7 : decode cX7_sumBy 7 = .ok (.iload 4, 2) := dk_21 4 (dk_at dksX7_sumBy_0 7 rfl rfl)
theorem dX7_sumBy_9 : decode cX7_sumBy 9 = .ok (.iload_n 1, 1) := dk_27 (dk_at dksX7_sumBy_0 9 rfl rfl)
theorem dX7_sumBy_10 : decode cX7_sumBy 10 = .ok (.if_icmp .ge 55, 3) := dk_162 0 55 (dk_at dksX7_sumBy_0 10 rfl rfl)
theorem dX7_sumBy_13 : decode cX7_sumBy 13 = .ok (.iload_n 2, 1) := dk_28 (dk_at dksX7_sumBy_0 13 rfl rfl)
theorem dX7_sumBy_14 : decode cX7_sumBy 14 = .ok (.aload_n 0, 1) := dk_42 (dk_at dksX7_sumBy_0 14 rfl rfl)
theorem dX7_sumBy_15 : decode cX7_sumBy 15 = .ok (.getfield 19, 3) := dk_180 0 19 (dk_at dksX7_sumBy_0 15 rfl rfl)
theorem dX7_sumBy_18 : decode cX7_sumBy 18 = .ok (.iload_n 1, 1) := dk_27 (dk_at dksX7_sumBy_0 18 rfl rfl)
theorem dX7_sumBy_19 : decode cX7_sumBy 19 = .ok (.iload_n 1, 1) := dk_27 (dk_at dksX7_sumBy_0 19 rfl rfl)
theorem dX7_sumBy_20 : decode cX7_sumBy 20 = .ok (.aload_n 0, 1) := dk_42 (dk_at dksX7_sumBy_0 20 rfl rfl)
theorem dX7_sumBy_21 : decode cX7_sumBy 21 = .ok (.getfield 87, 3) := dk_180 0 87 (dk_at dksX7_sumBy_0 21 rfl rfl)
theorem dX7_sumBy_24 : decode cX7_sumBy 24 = .ok (.iload 4, 2) := dk_21 4 (dk_at dksX7_sumBy_1 0 rfl rfl)
theorem dX7_sumBy_26 : decode cX7_sumBy 26 = .ok (.iconst 1, 1) := dk_4 (dk_at dksX7_sumBy_1 2 rfl rfl)
theorem dX7_sumBy_27 : decode cX7_sumBy 27 = .ok (.isub, 1) := dk_100 (dk_at dksX7_sumBy_1 3 rfl rfl)
theorem dX7_sumBy_28 : decode cX7_sumBy 28 = .ok (.iaload, 1) := dk_46 (dk_at dksX7_sumBy_1 4 rfl rfl)
theorem dX7_sumBy_29 : decode cX7_sumBy 29 = .ok (.imul, 1) := dk_104 (dk_at dksX7_sumBy_1 5 rfl rfl)
theorem dX7_sumBy_30 : decode cX7_sumBy 30 = .ok (.iadd, 1) := dk_96 (dk_at dksX7_sumBy_1 6 rfl rfl)
theorem dX7_sumBy_31 : decode cX7_sumBy 31 = .ok (.aload_n 0, 1) := dk_42 (dk_at dksX7_sumBy_1 7 rfl rfl)
theorem dX7_sumBy_32 : decode cX7_sumBy 32 = .ok (.getfield 87, 3) := dk_180 0 87 (dk_at dksX7_sumBy_1 8 rfl rfl)
theorem dX7_sumBy_35 : decode cX7_sumBy 35 = .ok (.iload 4, 2) := dk_21 4 (dk_at dksX7_sumBy_1 11 rfl rfl)
theorem dX7_sumBy_37 : decode cX7_sumBy 37 = .ok (.iaload, 1) := dk_46 (dk_at dksX7_sumBy_1 13 rfl rfl)
theorem dX7_sumBy_38 : decode cX7_sumBy 38 = .ok (.iadd, 1) := dk_96 (dk_at dksX7_sumBy_1 14 rfl rfl)
theorem dX7_sumBy_39 : decode cX7_sumBy 39 = .ok (.baload, 1) := dk_51 (dk_at dksX7_sumBy_1 15 rfl rfl)
theorem dX7_sumBy_40 : decode cX7_sumBy 40 = .ok (.iadd, 1) := dk_96 (dk_at dksX7_sumBy_1 16 rfl rfl)
theorem dX7_sumBy_41 : decode cX7_sumBy 41 = .ok (.istore_n 2, 1) := dk_61 (dk_at dksX7_sumBy_1 17 rfl rfl)
theorem dX7_sumBy_42 : decode cX7_sumBy 42 = .ok (.iload_n 3, 1) := dk_29 (dk_at dksX7_sumBy_1 18 rfl rfl)
theorem dX7_sumBy_43 : decode cX7_sumBy 43 = .ok (.iload_n 2, 1) := dk_28 (dk_at dksX7_sumBy_1 19 rfl rfl)
theorem dX7_sumBy_44 : decode cX7_sumBy 44 = .ok (.aload_n 0, 1) := dk_42 (dk_at dksX7_sumBy_1 20 rfl rfl)
theorem dX7_sumBy_45 : decode cX7_sumBy 45 = .ok (.getfield 19, 3) := dk_180 0 19 (dk_at dksX7_sumBy_1 21 rfl rfl)
theorem dX7_sumBy_48 : decode cX7_sumBy 48 = .ok (.aload_n 0, 1) := dk_42 (dk_at dksX7_sumBy_2 0 rfl rfl)
theorem dX7_sumBy_49 : decode cX7_sumBy 49 = .ok (.getfield 87, 3) := dk_180 0 87 (dk_at dksX7_sumBy_2 1 rfl rfl)
theorem dX7_sumBy_52 : decode cX7_sumBy 52 = .ok (.iload 4, 2) := dk_21 4 (dk_at dksX7_sumBy_2 4 rfl rfl)
theorem dX7_sumBy_54 : decode cX7_sumBy 54 = .ok (.iaload, 1) := dk_46 (dk_at dksX7_sumBy_2 6 rfl rfl)
theorem dX7_sumBy_55 : decode cX7_sumBy 55 = .ok (.baload, 1) := dk_51 (dk_at dksX7_sumBy_2 7 rfl rfl)
theorem dX7_sumBy_56 : decode cX7_sumBy 56 = .ok (.imul, 1) := dk_104 (dk_at dksX7_sumBy_2 8 rfl rfl)
theorem dX7_sumBy_57 : decode cX7_sumBy 57 = .ok (.iadd, 1) := dk_96 (dk_at dksX7_sumBy_2 9 rfl rfl)
theorem dX7_sumBy_58 : decode cX7_sumBy 58 = .ok (.istore_n 3, 1) := dk_62 (dk_at dksX7_sumBy_2 10 rfl rfl)
theorem dX7_sumBy_59 : decode cX7_sumBy 59 = .ok (.iinc 4 1, 3) := dk_132 4 1 (dk_at dksX7_sumBy_2 11 rfl rfl)
theorem dX7_sumBy_62 : decode cX7_sumBy 62 = .ok (.goto (-55), 3) := dk_167 255 201 (dk_at dksX7_sumBy_2 14 rfl rfl)
theorem dX7_sumBy_65 : decode cX7_sumBy 65 = .ok (.iload_n 3, 1) := dk_29 (dk_at dksX7_sumBy_2 17 rfl rfl)
theorem dX7_sumBy_66 : decode cX7_sumBy 66 = .ok (.ireturn, 1) := dk_172 (dk_at dksX7_sumBy_2 18 rfl rfl)
abbrev cX7_gcd : ByteArray := prog_21_method_88_code
def yX7_gcd : MethodName := ⟨RX7, "gcd", "(II)I"⟩
def dkwX7_gcd_0 : List UInt8 := [26, 61, 27, 62, 29, 153, 0, 16, 28, 29, 112, 54, 4, 29, 61, 21, 4, 62, 167, 255, 242, 28, 172]
abbrev dktX7_gcd_0 : List UInt8 := dkwX7_gcd_0 ++ []
theorem dksX7_gcd_0 : cX7_gcd.data.toList.drop 0 = dktX7_gcd_0 := by decide +kernel
theorem dX7_gcd_0 : decode cX7_gcd 0 = .ok (.iload_n 0, 1) := dk_26 (dk_at dksX7_gcd_0 0 rfl rfl)
theorem dX7_gcd_1 : decode cX7_gcd 1 = .ok (.istore_n 2, 1) := dk_61 (dk_at dksX7_gcd_0 1 rfl rfl)
theorem dX7_gcd_2 : decode cX7_gcd 2 = .ok (.iload_n 1, 1) := dk_27 (dk_at dksX7_gcd_0 2 rfl rfl)
theorem dX7_gcd_3 : decode cX7_gcd 3 = .ok (.istore_n 3, 1) := dk_62 (dk_at dksX7_gcd_0 3 rfl rfl)
theorem dX7_gcd_4 : decode cX7_gcd 4 = .ok (.iload_n 3, 1) := dk_29 (dk_at dksX7_gcd_0 4 rfl rfl)
theorem dX7_gcd_5 : decode cX7_gcd 5 = .ok (.ifCond .eq 16, 3) := dk_153 0 16 (dk_at dksX7_gcd_0 5 rfl rfl)
theorem dX7_gcd_8 : decode cX7_gcd 8 = .ok (.iload_n 2, 1) := dk_28 (dk_at dksX7_gcd_0 8 rfl rfl)
theorem dX7_gcd_9 : decode cX7_gcd 9 = .ok (.iload_n 3, 1) := dk_29 (dk_at dksX7_gcd_0 9 rfl rfl)
theorem dX7_gcd_10 : decode cX7_gcd 10 = .ok (.irem, 1) := dk_112 (dk_at dksX7_gcd_0 10 rfl rfl)
theorem dX7_gcd_11 : decode cX7_gcd 11 = .ok (.istore 4, 2) := dk_54 4 (dk_at dksX7_gcd_0 11 rfl rfl)
theorem dX7_gcd_13 : decode cX7_gcd 13 = .ok (.iload_n 3, 1) := dk_29 (dk_at dksX7_gcd_0 13 rfl rfl)
theorem dX7_gcd_14 : decode cX7_gcd 14 = .ok (.istore_n 2, 1) := dk_61 (dk_at dksX7_gcd_0 14 rfl rfl)
theorem dX7_gcd_15 : decode cX7_gcd 15 = .ok (.iload 4, 2) := dk_21 4 (dk_at dksX7_gcd_0 15 rfl rfl)
theorem dX7_gcd_17 : decode cX7_gcd 17 = .ok (.istore_n 3, 1) := dk_62 (dk_at dksX7_gcd_0 17 rfl rfl)
theorem dX7_gcd_18 : decode cX7_gcd 18 = .ok (.goto (-14), 3) := dk_167 255 242 (dk_at dksX7_gcd_0 18 rfl rfl)
theorem dX7_gcd_21 : decode cX7_gcd 21 = .ok (.iload_n 2, 1) := dk_28 (dk_at dksX7_gcd_0 21 rfl rfl)
theorem dX7_gcd_22 : decode cX7_gcd 22 = .ok (.ireturn, 1) := dk_172 (dk_at dksX7_gcd_0 22 rfl rfl)
abbrev cX7_sanding : ByteArray := prog_21_method_95_code
def yX7_sanding : MethodName := ⟨RX7, "sanding", "(IIIIIII)I"⟩
def dkwX7_sanding_15 : List UInt8 := [21, 7, 163, 0, 9, 21, 11, 4, 96, 54, 11, 132, 12, 1, 167, 255, 214, 21, 11, 172]
abbrev dktX7_sanding_15 : List UInt8 := dkwX7_sanding_15 ++ []
def dkwX7_sanding_14 : List UInt8 := [162, 0, 41, 42, 21, 12, 182, 0, 105, 153, 0, 26, 21, 12, 27, 159, 0, 20, 42, 21, 12, 182, 1, 136]
abbrev dktX7_sanding_14 : List UInt8 := dkwX7_sanding_14 ++ dktX7_sanding_15
def dkwX7_sanding_13 : List UInt8 := [162, 0, 14, 42, 180, 0, 94, 21, 6, 46, 16, 10, 96, 172, 3, 54, 11, 3, 54, 12, 21, 12, 16, 12]
abbrev dktX7_sanding_13 : List UInt8 := dkwX7_sanding_13 ++ dktX7_sanding_14
def dkwX7_sanding_12 : List UInt8 := [21, 6, 16, 10, 160, 0, 6, 21, 10, 172, 42, 21, 8, 21, 9, 182, 1, 133, 21, 6, 16, 8]
abbrev dktX7_sanding_12 : List UInt8 := dkwX7_sanding_12 ++ dktX7_sanding_13
def dkwX7_sanding_11 : List UInt8 := [182, 1, 130, 42, 3, 21, 8, 21, 9, 182, 1, 120, 54, 10, 21, 10, 18, 245, 160, 0, 6, 16, 254, 172]
abbrev dktX7_sanding_11 : List UInt8 := dkwX7_sanding_11 ++ dktX7_sanding_12
def dkwX7_sanding_10 : List UInt8 := [16, 72, 21, 4, 96, 46, 96, 54, 9, 42, 21, 4, 2, 160, 0, 7, 3, 167, 0, 5, 16, 60]
abbrev dktX7_sanding_10 : List UInt8 := dkwX7_sanding_10 ++ dktX7_sanding_11
def dkwX7_sanding_9 : List UInt8 := [160, 0, 7, 3, 167, 0, 26, 21, 5, 42, 180, 0, 7, 16, 72, 27, 96, 46, 96, 42, 180, 0, 7]
abbrev dktX7_sanding_9 : List UInt8 := dkwX7_sanding_9 ++ dktX7_sanding_10
def dkwX7_sanding_8 : List UInt8 := [180, 0, 7, 16, 72, 27, 96, 46, 96, 42, 180, 0, 7, 16, 72, 28, 96, 46, 96, 54, 8, 21, 4, 2]
abbrev dktX7_sanding_8 : List UInt8 := dkwX7_sanding_8 ++ dktX7_sanding_9
def dkwX7_sanding_7 : List UInt8 := [164, 0, 5, 2, 172, 42, 27, 181, 1, 123, 42, 28, 181, 1, 114, 42, 21, 4, 181, 1, 117, 29, 42]
abbrev dktX7_sanding_7 : List UInt8 := dkwX7_sanding_7 ++ dktX7_sanding_8
def dkwX7_sanding_6 : List UInt8 := [180, 0, 7, 16, 72, 27, 96, 46, 96, 42, 180, 0, 7, 16, 72, 21, 4, 96, 46, 96, 16, 60]
abbrev dktX7_sanding_6 : List UInt8 := dkwX7_sanding_6 ++ dktX7_sanding_7
def dkwX7_sanding_5 : List UInt8 := [46, 96, 16, 60, 163, 0, 44, 21, 4, 2, 159, 0, 40, 21, 5, 16, 60, 163, 0, 31, 21, 5, 42]
abbrev dktX7_sanding_5 : List UInt8 := dkwX7_sanding_5 ++ dktX7_sanding_6
def dkwX7_sanding_4 : List UInt8 := [16, 60, 163, 0, 70, 29, 42, 180, 0, 7, 16, 72, 27, 96, 46, 96, 42, 180, 0, 7, 16, 72, 28, 96]
abbrev dktX7_sanding_4 : List UInt8 := dkwX7_sanding_4 ++ dktX7_sanding_5
def dkwX7_sanding_3 : List UInt8 := [16, 10, 16, 11, 184, 0, 111, 153, 0, 14, 21, 7, 3, 16, 99, 184, 0, 111, 154, 0, 5, 2, 172, 29]
abbrev dktX7_sanding_3 : List UInt8 := dkwX7_sanding_3 ++ dktX7_sanding_4
def dkwX7_sanding_2 : List UInt8 := [159, 0, 8, 21, 5, 156, 0, 5, 2, 172, 21, 6, 3, 16, 7, 184, 0, 111, 154, 0, 15, 21, 6]
abbrev dktX7_sanding_2 : List UInt8 := dkwX7_sanding_2 ++ dktX7_sanding_3
def dkwX7_sanding_1 : List UInt8 := [21, 4, 2, 159, 0, 30, 21, 4, 184, 0, 97, 153, 0, 20, 21, 4, 28, 159, 0, 14, 21, 4, 27]
abbrev dktX7_sanding_1 : List UInt8 := dkwX7_sanding_1 ++ dktX7_sanding_2
def dkwX7_sanding_0 : List UInt8 := [27, 184, 0, 97, 153, 0, 50, 28, 184, 0, 97, 153, 0, 43, 27, 28, 159, 0, 38, 29, 155, 0, 34]
abbrev dktX7_sanding_0 : List UInt8 := dkwX7_sanding_0 ++ dktX7_sanding_1
theorem dksX7_sanding_0 : cX7_sanding.data.toList.drop 0 = dktX7_sanding_0 := by decide +kernel
theorem dksX7_sanding_1 : cX7_sanding.data.toList.drop 23 = dktX7_sanding_1 := dk_seg dksX7_sanding_0 23 rfl rfl
theorem dksX7_sanding_2 : cX7_sanding.data.toList.drop 46 = dktX7_sanding_2 := dk_seg dksX7_sanding_1 23 rfl rfl
theorem dksX7_sanding_3 : cX7_sanding.data.toList.drop 69 = dktX7_sanding_3 := dk_seg dksX7_sanding_2 23 rfl rfl
theorem dksX7_sanding_4 : cX7_sanding.data.toList.drop 93 = dktX7_sanding_4 := dk_seg dksX7_sanding_3 24 rfl rfl
theorem dksX7_sanding_5 : cX7_sanding.data.toList.drop 117 = dktX7_sanding_5 := dk_seg dksX7_sanding_4 24 rfl rfl
theorem dksX7_sanding_6 : cX7_sanding.data.toList.drop 140 = dktX7_sanding_6 := dk_seg dksX7_sanding_5 23 rfl rfl
theorem dksX7_sanding_7 : cX7_sanding.data.toList.drop 162 = dktX7_sanding_7 := dk_seg dksX7_sanding_6 22 rfl rfl
theorem dksX7_sanding_8 : cX7_sanding.data.toList.drop 185 = dktX7_sanding_8 := dk_seg dksX7_sanding_7 23 rfl rfl
theorem dksX7_sanding_9 : cX7_sanding.data.toList.drop 209 = dktX7_sanding_9 := dk_seg dksX7_sanding_8 24 rfl rfl
theorem dksX7_sanding_10 : cX7_sanding.data.toList.drop 232 = dktX7_sanding_10 := dk_seg dksX7_sanding_9 23 rfl rfl
theorem dksX7_sanding_11 : cX7_sanding.data.toList.drop 254 = dktX7_sanding_11 := dk_seg dksX7_sanding_10 22 rfl rfl
theorem dksX7_sanding_12 : cX7_sanding.data.toList.drop 278 = dktX7_sanding_12 := dk_seg dksX7_sanding_11 24 rfl rfl
theorem dksX7_sanding_13 : cX7_sanding.data.toList.drop 300 = dktX7_sanding_13 := dk_seg dksX7_sanding_12 22 rfl rfl
theorem dksX7_sanding_14 : cX7_sanding.data.toList.drop 324 = dktX7_sanding_14 := dk_seg dksX7_sanding_13 24 rfl rfl
theorem dksX7_sanding_15 : cX7_sanding.data.toList.drop 348 = dktX7_sanding_15 := dk_seg dksX7_sanding_14 24 rfl rfl
theorem dX7_sanding_0 : decode cX7_sanding 0 = .ok (.iload_n 1, 1) := dk_27 (dk_at dksX7_sanding_0 0 rfl rfl)
theorem dX7_sanding_1 : decode cX7_sanding 1 = .ok (.invokestatic 97, 3) := dk_184 0 97 (dk_at dksX7_sanding_0 1 rfl rfl)
theorem dX7_sanding_4 : decode cX7_sanding 4 = .ok (.ifCond .eq 50, 3) := dk_153 0 50 (dk_at dksX7_sanding_0 4 rfl rfl)
theorem dX7_sanding_7 : decode cX7_sanding 7 = .ok (.iload_n 2, 1) := dk_28 (dk_at dksX7_sanding_0 7 rfl rfl)
theorem dX7_sanding_8 : decode cX7_sanding 8 = .ok (.invokestatic 97, 3) := dk_184 0 97 (dk_at dksX7_sanding_0 8 rfl rfl)
theorem dX7_sanding_11 : decode cX7_sanding 11 = .ok (.ifCond .eq 43, 3) := dk_153 0 43 (dk_at dksX7_sanding_0 11 rfl rfl)
theorem dX7_sanding_14 : decode cX7_sanding 14 = .ok (.iload_n 1, 1) := dk_27 (dk_at dksX7_sanding_0 14 rfl rfl)
theorem dX7_sanding_15 : decode cX7_sanding 15 = .ok (.iload_n 2, 1) := dk_28 (dk_at dksX7_sanding_0 15 rfl rfl)
theorem dX7_sanding_16 : decode cX7_sanding 16 = .ok (.if_icmp .eq 38, 3) := dk_159 0 38 (dk_at dksX7_sanding_0 16 rfl rfl)
theorem dX7_sanding_19 : decode cX7_sanding 19 = .ok (.iload_n 3, 1) := dk_29 (dk_at dksX7_sanding_0 19 rfl rfl)
theorem dX7_sanding_20 : decode cX7_sanding 20 = .ok (.ifCond .lt 34, 3) := dk_155 0 34 (dk_at dksX7_sanding_0 20 rfl rfl)
theorem dX7_sanding_23 : decode cX7_sanding 23 = .ok (.iload 4, 2) := dk_21 4 (dk_at dksX7_sanding_1 0 rfl rfl)
theorem dX7_sanding_25 : decode cX7_sanding 25 = .ok (.iconst (-1), 1) := dk_2 (dk_at dksX7_sanding_1 2 rfl rfl)
theorem dX7_sanding_26 : decode cX7_sanding 26 = .ok (.if_icmp .eq 30, 3) := dk_159 0 30 (dk_at dksX7_sanding_1 3 rfl rfl)
theorem dX7_sanding_29 : decode cX7_sanding 29 = .ok (.iload 4, 2) := dk_21 4 (dk_at dksX7_sanding_1 6 rfl rfl)
theorem dX7_sanding_31 : decode cX7_sanding 31 = .ok (.invokestatic 97, 3) := dk_184 0 97 (dk_at dksX7_sanding_1 8 rfl rfl)
theorem dX7_sanding_34 : decode cX7_sanding 34 = .ok (.ifCond .eq 20, 3) := dk_153 0 20 (dk_at dksX7_sanding_1 11 rfl rfl)
theorem dX7_sanding_37 : decode cX7_sanding 37 = .ok (.iload 4, 2) := dk_21 4 (dk_at dksX7_sanding_1 14 rfl rfl)
theorem dX7_sanding_39 : decode cX7_sanding 39 = .ok (.iload_n 2, 1) := dk_28 (dk_at dksX7_sanding_1 16 rfl rfl)
theorem dX7_sanding_40 : decode cX7_sanding 40 = .ok (.if_icmp .eq 14, 3) := dk_159 0 14 (dk_at dksX7_sanding_1 17 rfl rfl)
theorem dX7_sanding_43 : decode cX7_sanding 43 = .ok (.iload 4, 2) := dk_21 4 (dk_at dksX7_sanding_1 20 rfl rfl)
theorem dX7_sanding_45 : decode cX7_sanding 45 = .ok (.iload_n 1, 1) := dk_27 (dk_at dksX7_sanding_1 22 rfl rfl)
theorem dX7_sanding_46 : decode cX7_sanding 46 = .ok (.if_icmp .eq 8, 3) := dk_159 0 8 (dk_at dksX7_sanding_2 0 rfl rfl)
theorem dX7_sanding_49 : decode cX7_sanding 49 = .ok (.iload 5, 2) := dk_21 5 (dk_at dksX7_sanding_2 3 rfl rfl)
theorem dX7_sanding_51 : decode cX7_sanding 51 = .ok (.ifCond .ge 5, 3) := dk_156 0 5 (dk_at dksX7_sanding_2 5 rfl rfl)
theorem dX7_sanding_54 : decode cX7_sanding 54 = .ok (.iconst (-1), 1) := dk_2 (dk_at dksX7_sanding_2 8 rfl rfl)
theorem dX7_sanding_55 : decode cX7_sanding 55 = .ok (.ireturn, 1) := dk_172 (dk_at dksX7_sanding_2 9 rfl rfl)
theorem dX7_sanding_56 : decode cX7_sanding 56 = .ok (.iload 6, 2) := dk_21 6 (dk_at dksX7_sanding_2 10 rfl rfl)
theorem dX7_sanding_58 : decode cX7_sanding 58 = .ok (.iconst 0, 1) := dk_3 (dk_at dksX7_sanding_2 12 rfl rfl)
theorem dX7_sanding_59 : decode cX7_sanding 59 = .ok (.bipush 7, 2) := dk_16 7 (dk_at dksX7_sanding_2 13 rfl rfl)
theorem dX7_sanding_61 : decode cX7_sanding 61 = .ok (.invokestatic 111, 3) := dk_184 0 111 (dk_at dksX7_sanding_2 15 rfl rfl)
theorem dX7_sanding_64 : decode cX7_sanding 64 = .ok (.ifCond .ne 15, 3) := dk_154 0 15 (dk_at dksX7_sanding_2 18 rfl rfl)
theorem dX7_sanding_67 : decode cX7_sanding 67 = .ok (.iload 6, 2) := dk_21 6 (dk_at dksX7_sanding_2 21 rfl rfl)
theorem dX7_sanding_69 : decode cX7_sanding 69 = .ok (.bipush 10, 2) := dk_16 10 (dk_at dksX7_sanding_3 0 rfl rfl)
theorem dX7_sanding_71 : decode cX7_sanding 71 = .ok (.bipush 11, 2) := dk_16 11 (dk_at dksX7_sanding_3 2 rfl rfl)
theorem dX7_sanding_73 : decode cX7_sanding 73 = .ok (.invokestatic 111, 3) := dk_184 0 111 (dk_at dksX7_sanding_3 4 rfl rfl)
theorem dX7_sanding_76 : decode cX7_sanding 76 = .ok (.ifCond .eq 14, 3) := dk_153 0 14 (dk_at dksX7_sanding_3 7 rfl rfl)
theorem dX7_sanding_79 : decode cX7_sanding 79 = .ok (.iload 7, 2) := dk_21 7 (dk_at dksX7_sanding_3 10 rfl rfl)
theorem dX7_sanding_81 : decode cX7_sanding 81 = .ok (.iconst 0, 1) := dk_3 (dk_at dksX7_sanding_3 12 rfl rfl)
theorem dX7_sanding_82 : decode cX7_sanding 82 = .ok (.bipush 99, 2) := dk_16 99 (dk_at dksX7_sanding_3 13 rfl rfl)
theorem dX7_sanding_84 : decode cX7_sanding 84 = .ok (.invokestatic 111, 3) := dk_184 0 111 (dk_at dksX7_sanding_3 15 rfl rfl)
theorem dX7_sanding_87 : decode cX7_sanding 87 = .ok (.ifCond .ne 5, 3) := dk_154 0 5 (dk_at dksX7_sanding_3 18 rfl rfl)
theorem dX7_sanding_90 : decode cX7_sanding 90 = .ok (.iconst (-1), 1) := dk_2 (dk_at dksX7_sanding_3 21 rfl rfl)
theorem dX7_sanding_91 : decode cX7_sanding 91 = .ok (.ireturn, 1) := dk_172 (dk_at dksX7_sanding_3 22 rfl rfl)
theorem dX7_sanding_92 : decode cX7_sanding 92 = .ok (.iload_n 3, 1) := dk_29 (dk_at dksX7_sanding_3 23 rfl rfl)
theorem dX7_sanding_93 : decode cX7_sanding 93 = .ok (.bipush 60, 2) := dk_16 60 (dk_at dksX7_sanding_4 0 rfl rfl)
theorem dX7_sanding_95 : decode cX7_sanding 95 = .ok (.if_icmp .gt 70, 3) := dk_163 0 70 (dk_at dksX7_sanding_4 2 rfl rfl)
theorem dX7_sanding_98 : decode cX7_sanding 98 = .ok (.iload_n 3, 1) := dk_29 (dk_at dksX7_sanding_4 5 rfl rfl)
theorem dX7_sanding_99 : decode cX7_sanding 99 = .ok (.aload_n 0, 1) := dk_42 (dk_at dksX7_sanding_4 6 rfl rfl)
theorem dX7_sanding_100 : decode cX7_sanding 100 = .ok (.getfield 7, 3) := dk_180 0 7 (dk_at dksX7_sanding_4 7 rfl rfl)
theorem dX7_sanding_103 : decode cX7_sanding 103 = .ok (.bipush 72, 2) := dk_16 72 (dk_at dksX7_sanding_4 10 rfl rfl)
theorem dX7_sanding_105 : decode cX7_sanding 105 = .ok (.iload_n 1, 1) := dk_27 (dk_at dksX7_sanding_4 12 rfl rfl)
theorem dX7_sanding_106 : decode cX7_sanding 106 = .ok (.iadd, 1) := dk_96 (dk_at dksX7_sanding_4 13 rfl rfl)
theorem dX7_sanding_107 : decode cX7_sanding 107 = .ok (.iaload, 1) := dk_46 (dk_at dksX7_sanding_4 14 rfl rfl)
theorem dX7_sanding_108 : decode cX7_sanding 108 = .ok (.iadd, 1) := dk_96 (dk_at dksX7_sanding_4 15 rfl rfl)
theorem dX7_sanding_109 : decode cX7_sanding 109 = .ok (.aload_n 0, 1) := dk_42 (dk_at dksX7_sanding_4 16 rfl rfl)
theorem dX7_sanding_110 : decode cX7_sanding 110 = .ok (.getfield 7, 3) := dk_180 0 7 (dk_at dksX7_sanding_4 17 rfl rfl)
theorem dX7_sanding_113 : decode cX7_sanding 113 = .ok (.bipush 72, 2) := dk_16 72 (dk_at dksX7_sanding_4 20 rfl rfl)
theorem dX7_sanding_115 : decode cX7_sanding 115 = .ok (.iload_n 2, 1) := dk_28 (dk_at dksX7_sanding_4 22 rfl rfl)
theorem dX7_sanding_116 : decode cX7_sanding 116 = .ok (.iadd, 1) := dk_96 (dk_at dksX7_sanding_4 23 rfl rfl)
theorem dX7_sanding_117 : decode cX7_sanding 117 = .ok (.iaload, 1) := dk_46 (dk_at dksX7_sanding_5 0 rfl rfl)
theorem dX7_sanding_118 : decode cX7_sanding 118 = .ok (.iadd, 1) := dk_96 (dk_at dksX7_sanding_5 1 rfl rfl)
theorem dX7_sanding_119 : decode cX7_sanding 119 = .ok (.bipush 60, 2) := dk_16 60 (dk_at dksX7_sanding_5 2 rfl rfl)
theorem dX7_sanding_121 : decode cX7_sanding 121 = .ok (.if_icmp .gt 44, 3) := dk_163 0 44 (dk_at dksX7_sanding_5 4 rfl rfl)
theorem dX7_sanding_124 : decode cX7_sanding 124 = .ok (.iload 4, 2) := dk_21 4 (dk_at dksX7_sanding_5 7 rfl rfl)
theorem dX7_sanding_126 : decode cX7_sanding 126 = .ok (.iconst (-1), 1) := dk_2 (dk_at dksX7_sanding_5 9 rfl rfl)
theorem dX7_sanding_127 : decode cX7_sanding 127 = .ok (.if_icmp .eq 40, 3) := dk_159 0 40 (dk_at dksX7_sanding_5 10 rfl rfl)
theorem dX7_sanding_130 : decode cX7_sanding 130 = .ok (.iload 5, 2) := dk_21 5 (dk_at dksX7_sanding_5 13 rfl rfl)
theorem dX7_sanding_132 : decode cX7_sanding 132 = .ok (.bipush 60, 2) := dk_16 60 (dk_at dksX7_sanding_5 15 rfl rfl)
theorem dX7_sanding_134 : decode cX7_sanding 134 = .ok (.if_icmp .gt 31, 3) := dk_163 0 31 (dk_at dksX7_sanding_5 17 rfl rfl)
theorem dX7_sanding_137 : decode cX7_sanding 137 = .ok (.iload 5, 2) := dk_21 5 (dk_at dksX7_sanding_5 20 rfl rfl)
theorem dX7_sanding_139 : decode cX7_sanding 139 = .ok (.aload_n 0, 1) := dk_42 (dk_at dksX7_sanding_5 22 rfl rfl)
theorem dX7_sanding_140 : decode cX7_sanding 140 = .ok (.getfield 7, 3) := dk_180 0 7 (dk_at dksX7_sanding_6 0 rfl rfl)
theorem dX7_sanding_143 : decode cX7_sanding 143 = .ok (.bipush 72, 2) := dk_16 72 (dk_at dksX7_sanding_6 3 rfl rfl)
theorem dX7_sanding_145 : decode cX7_sanding 145 = .ok (.iload_n 1, 1) := dk_27 (dk_at dksX7_sanding_6 5 rfl rfl)
theorem dX7_sanding_146 : decode cX7_sanding 146 = .ok (.iadd, 1) := dk_96 (dk_at dksX7_sanding_6 6 rfl rfl)
theorem dX7_sanding_147 : decode cX7_sanding 147 = .ok (.iaload, 1) := dk_46 (dk_at dksX7_sanding_6 7 rfl rfl)
theorem dX7_sanding_148 : decode cX7_sanding 148 = .ok (.iadd, 1) := dk_96 (dk_at dksX7_sanding_6 8 rfl rfl)
theorem dX7_sanding_149 : decode cX7_sanding 149 = .ok (.aload_n 0, 1) := dk_42 (dk_at dksX7_sanding_6 9 rfl rfl)
theorem dX7_sanding_150 : decode cX7_sanding 150 = .ok (.getfield 7, 3) := dk_180 0 7 (dk_at dksX7_sanding_6 10 rfl rfl)
theorem dX7_sanding_153 : decode cX7_sanding 153 = .ok (.bipush 72, 2) := dk_16 72 (dk_at dksX7_sanding_6 13 rfl rfl)
theorem dX7_sanding_155 : decode cX7_sanding 155 = .ok (.iload 4, 2) := dk_21 4 (dk_at dksX7_sanding_6 15 rfl rfl)
theorem dX7_sanding_157 : decode cX7_sanding 157 = .ok (.iadd, 1) := dk_96 (dk_at dksX7_sanding_6 17 rfl rfl)
theorem dX7_sanding_158 : decode cX7_sanding 158 = .ok (.iaload, 1) := dk_46 (dk_at dksX7_sanding_6 18 rfl rfl)
theorem dX7_sanding_159 : decode cX7_sanding 159 = .ok (.iadd, 1) := dk_96 (dk_at dksX7_sanding_6 19 rfl rfl)
theorem dX7_sanding_160 : decode cX7_sanding 160 = .ok (.bipush 60, 2) := dk_16 60 (dk_at dksX7_sanding_6 20 rfl rfl)
theorem dX7_sanding_162 : decode cX7_sanding 162 = .ok (.if_icmp .le 5, 3) := dk_164 0 5 (dk_at dksX7_sanding_7 0 rfl rfl)
theorem dX7_sanding_165 : decode cX7_sanding 165 = .ok (.iconst (-1), 1) := dk_2 (dk_at dksX7_sanding_7 3 rfl rfl)
theorem dX7_sanding_166 : decode cX7_sanding 166 = .ok (.ireturn, 1) := dk_172 (dk_at dksX7_sanding_7 4 rfl rfl)
theorem dX7_sanding_167 : decode cX7_sanding 167 = .ok (.aload_n 0, 1) := dk_42 (dk_at dksX7_sanding_7 5 rfl rfl)
theorem dX7_sanding_168 : decode cX7_sanding 168 = .ok (.iload_n 1, 1) := dk_27 (dk_at dksX7_sanding_7 6 rfl rfl)
theorem dX7_sanding_169 : decode cX7_sanding 169 = .ok (.putfield 379, 3) := dk_181 1 123 (dk_at dksX7_sanding_7 7 rfl rfl)
theorem dX7_sanding_172 : decode cX7_sanding 172 = .ok (.aload_n 0, 1) := dk_42 (dk_at dksX7_sanding_7 10 rfl rfl)
theorem dX7_sanding_173 : decode cX7_sanding 173 = .ok (.iload_n 2, 1) := dk_28 (dk_at dksX7_sanding_7 11 rfl rfl)
theorem dX7_sanding_174 : decode cX7_sanding 174 = .ok (.putfield 370, 3) := dk_181 1 114 (dk_at dksX7_sanding_7 12 rfl rfl)
theorem dX7_sanding_177 : decode cX7_sanding 177 = .ok (.aload_n 0, 1) := dk_42 (dk_at dksX7_sanding_7 15 rfl rfl)
theorem dX7_sanding_178 : decode cX7_sanding 178 = .ok (.iload 4, 2) := dk_21 4 (dk_at dksX7_sanding_7 16 rfl rfl)
theorem dX7_sanding_180 : decode cX7_sanding 180 = .ok (.putfield 373, 3) := dk_181 1 117 (dk_at dksX7_sanding_7 18 rfl rfl)
theorem dX7_sanding_183 : decode cX7_sanding 183 = .ok (.iload_n 3, 1) := dk_29 (dk_at dksX7_sanding_7 21 rfl rfl)
theorem dX7_sanding_184 : decode cX7_sanding 184 = .ok (.aload_n 0, 1) := dk_42 (dk_at dksX7_sanding_7 22 rfl rfl)
theorem dX7_sanding_185 : decode cX7_sanding 185 = .ok (.getfield 7, 3) := dk_180 0 7 (dk_at dksX7_sanding_8 0 rfl rfl)
theorem dX7_sanding_188 : decode cX7_sanding 188 = .ok (.bipush 72, 2) := dk_16 72 (dk_at dksX7_sanding_8 3 rfl rfl)
theorem dX7_sanding_190 : decode cX7_sanding 190 = .ok (.iload_n 1, 1) := dk_27 (dk_at dksX7_sanding_8 5 rfl rfl)
theorem dX7_sanding_191 : decode cX7_sanding 191 = .ok (.iadd, 1) := dk_96 (dk_at dksX7_sanding_8 6 rfl rfl)
theorem dX7_sanding_192 : decode cX7_sanding 192 = .ok (.iaload, 1) := dk_46 (dk_at dksX7_sanding_8 7 rfl rfl)
theorem dX7_sanding_193 : decode cX7_sanding 193 = .ok (.iadd, 1) := dk_96 (dk_at dksX7_sanding_8 8 rfl rfl)
theorem dX7_sanding_194 : decode cX7_sanding 194 = .ok (.aload_n 0, 1) := dk_42 (dk_at dksX7_sanding_8 9 rfl rfl)
theorem dX7_sanding_195 : decode cX7_sanding 195 = .ok (.getfield 7, 3) := dk_180 0 7 (dk_at dksX7_sanding_8 10 rfl rfl)
theorem dX7_sanding_198 : decode cX7_sanding 198 = .ok (.bipush 72, 2) := dk_16 72 (dk_at dksX7_sanding_8 13 rfl rfl)
theorem dX7_sanding_200 : decode cX7_sanding 200 = .ok (.iload_n 2, 1) := dk_28 (dk_at dksX7_sanding_8 15 rfl rfl)
theorem dX7_sanding_201 : decode cX7_sanding 201 = .ok (.iadd, 1) := dk_96 (dk_at dksX7_sanding_8 16 rfl rfl)
theorem dX7_sanding_202 : decode cX7_sanding 202 = .ok (.iaload, 1) := dk_46 (dk_at dksX7_sanding_8 17 rfl rfl)
theorem dX7_sanding_203 : decode cX7_sanding 203 = .ok (.iadd, 1) := dk_96 (dk_at dksX7_sanding_8 18 rfl rfl)
theorem dX7_sanding_204 : decode cX7_sanding 204 = .ok (.istore 8, 2) := dk_54 8 (dk_at dksX7_sanding_8 19 rfl rfl)
theorem dX7_sanding_206 : decode cX7_sanding 206 = .ok (.iload 4, 2) := dk_21 4 (dk_at dksX7_sanding_8 21 rfl rfl)
theorem dX7_sanding_208 : decode cX7_sanding 208 = .ok (.iconst (-1), 1) := dk_2 (dk_at dksX7_sanding_8 23 rfl rfl)
theorem dX7_sanding_209 : decode cX7_sanding 209 = .ok (.if_icmp .ne 7, 3) := dk_160 0 7 (dk_at dksX7_sanding_9 0 rfl rfl)
theorem dX7_sanding_212 : decode cX7_sanding 212 = .ok (.iconst 0, 1) := dk_3 (dk_at dksX7_sanding_9 3 rfl rfl)
theorem dX7_sanding_213 : decode cX7_sanding 213 = .ok (.goto 26, 3) := dk_167 0 26 (dk_at dksX7_sanding_9 4 rfl rfl)
theorem dX7_sanding_216 : decode cX7_sanding 216 = .ok (.iload 5, 2) := dk_21 5 (dk_at dksX7_sanding_9 7 rfl rfl)
theorem dX7_sanding_218 : decode cX7_sanding 218 = .ok (.aload_n 0, 1) := dk_42 (dk_at dksX7_sanding_9 9 rfl rfl)
theorem dX7_sanding_219 : decode cX7_sanding 219 = .ok (.getfield 7, 3) := dk_180 0 7 (dk_at dksX7_sanding_9 10 rfl rfl)
theorem dX7_sanding_222 : decode cX7_sanding 222 = .ok (.bipush 72, 2) := dk_16 72 (dk_at dksX7_sanding_9 13 rfl rfl)
theorem dX7_sanding_224 : decode cX7_sanding 224 = .ok (.iload_n 1, 1) := dk_27 (dk_at dksX7_sanding_9 15 rfl rfl)
theorem dX7_sanding_225 : decode cX7_sanding 225 = .ok (.iadd, 1) := dk_96 (dk_at dksX7_sanding_9 16 rfl rfl)
theorem dX7_sanding_226 : decode cX7_sanding 226 = .ok (.iaload, 1) := dk_46 (dk_at dksX7_sanding_9 17 rfl rfl)
theorem dX7_sanding_227 : decode cX7_sanding 227 = .ok (.iadd, 1) := dk_96 (dk_at dksX7_sanding_9 18 rfl rfl)
theorem dX7_sanding_228 : decode cX7_sanding 228 = .ok (.aload_n 0, 1) := dk_42 (dk_at dksX7_sanding_9 19 rfl rfl)
theorem dX7_sanding_229 : decode cX7_sanding 229 = .ok (.getfield 7, 3) := dk_180 0 7 (dk_at dksX7_sanding_9 20 rfl rfl)
theorem dX7_sanding_232 : decode cX7_sanding 232 = .ok (.bipush 72, 2) := dk_16 72 (dk_at dksX7_sanding_10 0 rfl rfl)
theorem dX7_sanding_234 : decode cX7_sanding 234 = .ok (.iload 4, 2) := dk_21 4 (dk_at dksX7_sanding_10 2 rfl rfl)
theorem dX7_sanding_236 : decode cX7_sanding 236 = .ok (.iadd, 1) := dk_96 (dk_at dksX7_sanding_10 4 rfl rfl)
theorem dX7_sanding_237 : decode cX7_sanding 237 = .ok (.iaload, 1) := dk_46 (dk_at dksX7_sanding_10 5 rfl rfl)
theorem dX7_sanding_238 : decode cX7_sanding 238 = .ok (.iadd, 1) := dk_96 (dk_at dksX7_sanding_10 6 rfl rfl)
theorem dX7_sanding_239 : decode cX7_sanding 239 = .ok (.istore 9, 2) := dk_54 9 (dk_at dksX7_sanding_10 7 rfl rfl)
theorem dX7_sanding_241 : decode cX7_sanding 241 = .ok (.aload_n 0, 1) := dk_42 (dk_at dksX7_sanding_10 9 rfl rfl)
theorem dX7_sanding_242 : decode cX7_sanding 242 = .ok (.iload 4, 2) := dk_21 4 (dk_at dksX7_sanding_10 10 rfl rfl)
theorem dX7_sanding_244 : decode cX7_sanding 244 = .ok (.iconst (-1), 1) := dk_2 (dk_at dksX7_sanding_10 12 rfl rfl)
theorem dX7_sanding_245 : decode cX7_sanding 245 = .ok (.if_icmp .ne 7, 3) := dk_160 0 7 (dk_at dksX7_sanding_10 13 rfl rfl)
theorem dX7_sanding_248 : decode cX7_sanding 248 = .ok (.iconst 0, 1) := dk_3 (dk_at dksX7_sanding_10 16 rfl rfl)
theorem dX7_sanding_249 : decode cX7_sanding 249 = .ok (.goto 5, 3) := dk_167 0 5 (dk_at dksX7_sanding_10 17 rfl rfl)
theorem dX7_sanding_252 : decode cX7_sanding 252 = .ok (.bipush 60, 2) := dk_16 60 (dk_at dksX7_sanding_10 20 rfl rfl)
theorem dX7_sanding_254 : decode cX7_sanding 254 = .ok (.invokevirtual 386, 3) := dk_182 1 130 (dk_at dksX7_sanding_11 0 rfl rfl)
theorem dX7_sanding_257 : decode cX7_sanding 257 = .ok (.aload_n 0, 1) := dk_42 (dk_at dksX7_sanding_11 3 rfl rfl)
theorem dX7_sanding_258 : decode cX7_sanding 258 = .ok (.iconst 0, 1) := dk_3 (dk_at dksX7_sanding_11 4 rfl rfl)
theorem dX7_sanding_259 : decode cX7_sanding 259 = .ok (.iload 8, 2) := dk_21 8 (dk_at dksX7_sanding_11 5 rfl rfl)
theorem dX7_sanding_261 : decode cX7_sanding 261 = .ok (.iload 9, 2) := dk_21 9 (dk_at dksX7_sanding_11 7 rfl rfl)
theorem dX7_sanding_263 : decode cX7_sanding 263 = .ok (.invokevirtual 376, 3) := dk_182 1 120 (dk_at dksX7_sanding_11 9 rfl rfl)
theorem dX7_sanding_266 : decode cX7_sanding 266 = .ok (.istore 10, 2) := dk_54 10 (dk_at dksX7_sanding_11 12 rfl rfl)
theorem dX7_sanding_268 : decode cX7_sanding 268 = .ok (.iload 10, 2) := dk_21 10 (dk_at dksX7_sanding_11 14 rfl rfl)
theorem dX7_sanding_270 : decode cX7_sanding 270 = .ok (.ldc 245, 2) := dk_18 245 (dk_at dksX7_sanding_11 16 rfl rfl)
theorem dX7_sanding_272 : decode cX7_sanding 272 = .ok (.if_icmp .ne 6, 3) := dk_160 0 6 (dk_at dksX7_sanding_11 18 rfl rfl)
theorem dX7_sanding_275 : decode cX7_sanding 275 = .ok (.bipush (-2), 2) := dk_16 254 (dk_at dksX7_sanding_11 21 rfl rfl)
theorem dX7_sanding_277 : decode cX7_sanding 277 = .ok (.ireturn, 1) := dk_172 (dk_at dksX7_sanding_11 23 rfl rfl)
theorem dX7_sanding_278 : decode cX7_sanding 278 = .ok (.iload 6, 2) := dk_21 6 (dk_at dksX7_sanding_12 0 rfl rfl)
theorem dX7_sanding_280 : decode cX7_sanding 280 = .ok (.bipush 10, 2) := dk_16 10 (dk_at dksX7_sanding_12 2 rfl rfl)
theorem dX7_sanding_282 : decode cX7_sanding 282 = .ok (.if_icmp .ne 6, 3) := dk_160 0 6 (dk_at dksX7_sanding_12 4 rfl rfl)
theorem dX7_sanding_285 : decode cX7_sanding 285 = .ok (.iload 10, 2) := dk_21 10 (dk_at dksX7_sanding_12 7 rfl rfl)
theorem dX7_sanding_287 : decode cX7_sanding 287 = .ok (.ireturn, 1) := dk_172 (dk_at dksX7_sanding_12 9 rfl rfl)
theorem dX7_sanding_288 : decode cX7_sanding 288 = .ok (.aload_n 0, 1) := dk_42 (dk_at dksX7_sanding_12 10 rfl rfl)
theorem dX7_sanding_289 : decode cX7_sanding 289 = .ok (.iload 8, 2) := dk_21 8 (dk_at dksX7_sanding_12 11 rfl rfl)
theorem dX7_sanding_291 : decode cX7_sanding 291 = .ok (.iload 9, 2) := dk_21 9 (dk_at dksX7_sanding_12 13 rfl rfl)
theorem dX7_sanding_293 : decode cX7_sanding 293 = .ok (.invokevirtual 389, 3) := dk_182 1 133 (dk_at dksX7_sanding_12 15 rfl rfl)
theorem dX7_sanding_296 : decode cX7_sanding 296 = .ok (.iload 6, 2) := dk_21 6 (dk_at dksX7_sanding_12 18 rfl rfl)
theorem dX7_sanding_298 : decode cX7_sanding 298 = .ok (.bipush 8, 2) := dk_16 8 (dk_at dksX7_sanding_12 20 rfl rfl)
theorem dX7_sanding_300 : decode cX7_sanding 300 = .ok (.if_icmp .ge 14, 3) := dk_162 0 14 (dk_at dksX7_sanding_13 0 rfl rfl)
theorem dX7_sanding_303 : decode cX7_sanding 303 = .ok (.aload_n 0, 1) := dk_42 (dk_at dksX7_sanding_13 3 rfl rfl)
theorem dX7_sanding_304 : decode cX7_sanding 304 = .ok (.getfield 94, 3) := dk_180 0 94 (dk_at dksX7_sanding_13 4 rfl rfl)
theorem dX7_sanding_307 : decode cX7_sanding 307 = .ok (.iload 6, 2) := dk_21 6 (dk_at dksX7_sanding_13 7 rfl rfl)
theorem dX7_sanding_309 : decode cX7_sanding 309 = .ok (.iaload, 1) := dk_46 (dk_at dksX7_sanding_13 9 rfl rfl)
theorem dX7_sanding_310 : decode cX7_sanding 310 = .ok (.bipush 10, 2) := dk_16 10 (dk_at dksX7_sanding_13 10 rfl rfl)
theorem dX7_sanding_312 : decode cX7_sanding 312 = .ok (.iadd, 1) := dk_96 (dk_at dksX7_sanding_13 12 rfl rfl)
theorem dX7_sanding_313 : decode cX7_sanding 313 = .ok (.ireturn, 1) := dk_172 (dk_at dksX7_sanding_13 13 rfl rfl)
theorem dX7_sanding_314 : decode cX7_sanding 314 = .ok (.iconst 0, 1) := dk_3 (dk_at dksX7_sanding_13 14 rfl rfl)
theorem dX7_sanding_315 : decode cX7_sanding 315 = .ok (.istore 11, 2) := dk_54 11 (dk_at dksX7_sanding_13 15 rfl rfl)
theorem dX7_sanding_317 : decode cX7_sanding 317 = .ok (.iconst 0, 1) := dk_3 (dk_at dksX7_sanding_13 17 rfl rfl)
theorem dX7_sanding_318 : decode cX7_sanding 318 = .ok (.istore 12, 2) := dk_54 12 (dk_at dksX7_sanding_13 18 rfl rfl)
theorem dX7_sanding_320 : decode cX7_sanding 320 = .ok (.iload 12, 2) := dk_21 12 (dk_at dksX7_sanding_13 20 rfl rfl)
theorem dX7_sanding_322 : decode cX7_sanding 322 = .ok (.bipush 12, 2) := dk_16 12 (dk_at dksX7_sanding_13 22 rfl rfl)
theorem dX7_sanding_324 : decode cX7_sanding 324 = .ok (.if_icmp .ge 41, 3) := dk_162 0 41 (dk_at dksX7_sanding_14 0 rfl rfl)
theorem dX7_sanding_327 : decode cX7_sanding 327 = .ok (.aload_n 0, 1) := dk_42 (dk_at dksX7_sanding_14 3 rfl rfl)
theorem dX7_sanding_328 : decode cX7_sanding 328 = .ok (.iload 12, 2) := dk_21 12 (dk_at dksX7_sanding_14 4 rfl rfl)
theorem dX7_sanding_330 : decode cX7_sanding 330 = .ok (.invokevirtual 105, 3) := dk_182 0 105 (dk_at dksX7_sanding_14 6 rfl rfl)
theorem dX7_sanding_333 : decode cX7_sanding 333 = .ok (.ifCond .eq 26, 3) := dk_153 0 26 (dk_at dksX7_sanding_14 9 rfl rfl)
theorem dX7_sanding_336 : decode cX7_sanding 336 = .ok (.iload 12, 2) := dk_21 12 (dk_at dksX7_sanding_14 12 rfl rfl)
theorem dX7_sanding_338 : decode cX7_sanding 338 = .ok (.iload_n 1, 1) := dk_27 (dk_at dksX7_sanding_14 14 rfl rfl)
theorem dX7_sanding_339 : decode cX7_sanding 339 = .ok (.if_icmp .eq 20, 3) := dk_159 0 20 (dk_at dksX7_sanding_14 15 rfl rfl)
theorem dX7_sanding_342 : decode cX7_sanding 342 = .ok (.aload_n 0, 1) := dk_42 (dk_at dksX7_sanding_14 18 rfl rfl)
theorem dX7_sanding_343 : decode cX7_sanding 343 = .ok (.iload 12, 2) := dk_21 12 (dk_at dksX7_sanding_14 19 rfl rfl)
theorem dX7_sanding_345 : decode cX7_sanding 345 = .ok (.invokevirtual 392, 3) := dk_182 1 136 (dk_at dksX7_sanding_14 21 rfl rfl)
theorem dX7_sanding_348 : decode cX7_sanding 348 = .ok (.iload 7, 2) := dk_21 7 (dk_at dksX7_sanding_15 0 rfl rfl)
theorem dX7_sanding_350 : decode cX7_sanding 350 = .ok (.if_icmp .gt 9, 3) := dk_163 0 9 (dk_at dksX7_sanding_15 2 rfl rfl)
theorem dX7_sanding_353 : decode cX7_sanding 353 = .ok (.iload 11, 2) := dk_21 11 (dk_at dksX7_sanding_15 5 rfl rfl)
theorem dX7_sanding_355 : decode cX7_sanding 355 = .ok (.iconst 1, 1) := dk_4 (dk_at dksX7_sanding_15 7 rfl rfl)
theorem dX7_sanding_356 : decode cX7_sanding 356 = .ok (.iadd, 1) := dk_96 (dk_at dksX7_sanding_15 8 rfl rfl)
theorem dX7_sanding_357 : decode cX7_sanding 357 = .ok (.istore 11, 2) := dk_54 11 (dk_at dksX7_sanding_15 9 rfl rfl)
theorem dX7_sanding_359 : decode cX7_sanding 359 = .ok (.iinc 12 1, 3) := dk_132 12 1 (dk_at dksX7_sanding_15 11 rfl rfl)
theorem dX7_sanding_362 : decode cX7_sanding 362 = .ok (.goto (-42), 3) := dk_167 255 214 (dk_at dksX7_sanding_15 14 rfl rfl)
theorem dX7_sanding_365 : decode cX7_sanding 365 = .ok (.iload 11, 2) := dk_21 11 (dk_at dksX7_sanding_15 17 rfl rfl)
theorem dX7_sanding_367 : decode cX7_sanding 367 = .ok (.ireturn, 1) := dk_172 (dk_at dksX7_sanding_15 19 rfl rfl)
abbrev cX7_laysWork : ByteArray := prog_21_method_92_code
def yX7_laysWork : MethodName := ⟨RX7, "laysWork", "(I)V"⟩
def dkwX7_laysWork_6 : List UInt8 := [167, 255, 162, 177]
abbrev dktX7_laysWork_6 : List UInt8 := dkwX7_laysWork_6 ++ []
def dkwX7_laysWork_5 : List UInt8 := [96, 21, 4, 96, 21, 5, 79, 132, 4, 1, 167, 255, 189, 132, 3, 1, 167, 255, 174, 132, 2, 255]
abbrev dktX7_laysWork_5 : List UInt8 := dkwX7_laysWork_5 ++ dktX7_laysWork_6
def dkwX7_laysWork_4 : List UInt8 := [184, 0, 249, 54, 5, 132, 6, 1, 167, 255, 229, 42, 180, 0, 91, 17, 14, 137, 28, 104, 16, 61, 29, 104]
abbrev dktX7_laysWork_4 : List UInt8 := dkwX7_laysWork_4 ++ dktX7_laysWork_5
def dkwX7_laysWork_3 : List UInt8 := [16, 247, 54, 6, 21, 6, 16, 9, 163, 0, 26, 21, 5, 42, 28, 21, 6, 29, 21, 4, 182, 1, 126]
abbrev dktX7_laysWork_3 : List UInt8 := dkwX7_laysWork_3 ++ dktX7_laysWork_4
def dkwX7_laysWork_2 : List UInt8 := [155, 0, 96, 3, 62, 29, 16, 60, 163, 0, 82, 3, 54, 4, 21, 4, 27, 163, 0, 67, 18, 245, 54, 5]
abbrev dktX7_laysWork_2 : List UInt8 := dkwX7_laysWork_2 ++ dktX7_laysWork_3
def dkwX7_laysWork_1 : List UInt8 := [28, 104, 96, 29, 96, 3, 79, 132, 3, 1, 167, 255, 232, 132, 2, 1, 167, 255, 218, 16, 7, 61, 28]
abbrev dktX7_laysWork_1 : List UInt8 := dkwX7_laysWork_1 ++ dktX7_laysWork_2
def dkwX7_laysWork_0 : List UInt8 := [3, 61, 28, 16, 60, 163, 0, 38, 3, 62, 29, 27, 163, 0, 25, 42, 180, 0, 91, 17, 116, 72, 16, 61]
abbrev dktX7_laysWork_0 : List UInt8 := dkwX7_laysWork_0 ++ dktX7_laysWork_1
theorem dksX7_laysWork_0 : cX7_laysWork.data.toList.drop 0 = dktX7_laysWork_0 := by decide +kernel
theorem dksX7_laysWork_1 : cX7_laysWork.data.toList.drop 24 = dktX7_laysWork_1 := dk_seg dksX7_laysWork_0 24 rfl rfl
theorem dksX7_laysWork_2 : cX7_laysWork.data.toList.drop 47 = dktX7_laysWork_2 := dk_seg dksX7_laysWork_1 23 rfl rfl
theorem dksX7_laysWork_3 : cX7_laysWork.data.toList.drop 71 = dktX7_laysWork_3 := dk_seg dksX7_laysWork_2 24 rfl rfl
theorem dksX7_laysWork_4 : cX7_laysWork.data.toList.drop 94 = dktX7_laysWork_4 := dk_seg dksX7_laysWork_3 23 rfl rfl
theorem dksX7_laysWork_5 : cX7_laysWork.data.toList.drop 118 = dktX7_laysWork_5 := dk_seg dksX7_laysWork_4 24 rfl rfl
theorem dksX7_laysWork_6 : cX7_laysWork.data.toList.drop 140 = dktX7_laysWork_6 := dk_seg dksX7_laysWork_5 22 rfl rfl
theorem dX7_laysWork_0 : decode cX7_laysWork 0 = .ok (.iconst 0, 1) := dk_3 (dk_at dksX7_laysWork_0 0 rfl rfl)
theorem dX7_laysWork_1 : decode cX7_laysWork 1 = .ok (.istore_n 2, 1) := dk_61 (dk_at dksX7_laysWork_0 1 rfl rfl)
theorem dX7_laysWork_2 : decode cX7_laysWork 2 = .ok (.iload_n 2, 1) := dk_28 (dk_at dksX7_laysWork_0 2 rfl rfl)
theorem dX7_laysWork_3 : decode cX7_laysWork 3 = .ok (.bipush 60, 2) := dk_16 60 (dk_at dksX7_laysWork_0 3 rfl rfl)
theorem dX7_laysWork_5 : decode cX7_laysWork 5 = .ok (.if_icmp .gt 38, 3) := dk_163 0 38 (dk_at dksX7_laysWork_0 5 rfl rfl)
theorem dX7_laysWork_8 : decode cX7_laysWork 8 = .ok (.iconst 0, 1) := dk_3 (dk_at dksX7_laysWork_0 8 rfl rfl)
theorem dX7_laysWork_9 : decode cX7_laysWork 9 = .ok (.istore_n 3, 1) := dk_62 (dk_at dksX7_laysWork_0 9 rfl rfl)
theorem dX7_laysWork_10 : decode cX7_laysWork 10 = .ok (.iload_n 3, 1) := dk_29 (dk_at dksX7_laysWork_0 10 rfl rfl)
theorem dX7_laysWork_11 : decode cX7_laysWork 11 = .ok (.iload_n 1, 1) := dk_27 (dk_at dksX7_laysWork_0 11 rfl rfl)
theorem dX7_laysWork_12 : decode cX7_laysWork 12 = .ok (.if_icmp .gt 25, 3) := dk_163 0 25 (dk_at dksX7_laysWork_0 12 rfl rfl)
theorem dX7_laysWork_15 : decode cX7_laysWork 15 = .ok (.aload_n 0, 1) := dk_42 (dk_at dksX7_laysWork_0 15 rfl rfl)
theorem dX7_laysWork_16 : decode cX7_laysWork 16 = .ok (.getfield 91, 3) := dk_180 0 91 (dk_at dksX7_laysWork_0 16 rfl rfl)
theorem dX7_laysWork_19 : decode cX7_laysWork 19 = .ok (.sipush 29768, 3) := dk_17 116 72 (dk_at dksX7_laysWork_0 19 rfl rfl)
theorem dX7_laysWork_22 : decode cX7_laysWork 22 = .ok (.bipush 61, 2) := dk_16 61 (dk_at dksX7_laysWork_0 22 rfl rfl)
theorem dX7_laysWork_24 : decode cX7_laysWork 24 = .ok (.iload_n 2, 1) := dk_28 (dk_at dksX7_laysWork_1 0 rfl rfl)
theorem dX7_laysWork_25 : decode cX7_laysWork 25 = .ok (.imul, 1) := dk_104 (dk_at dksX7_laysWork_1 1 rfl rfl)
theorem dX7_laysWork_26 : decode cX7_laysWork 26 = .ok (.iadd, 1) := dk_96 (dk_at dksX7_laysWork_1 2 rfl rfl)
theorem dX7_laysWork_27 : decode cX7_laysWork 27 = .ok (.iload_n 3, 1) := dk_29 (dk_at dksX7_laysWork_1 3 rfl rfl)
theorem dX7_laysWork_28 : decode cX7_laysWork 28 = .ok (.iadd, 1) := dk_96 (dk_at dksX7_laysWork_1 4 rfl rfl)
theorem dX7_laysWork_29 : decode cX7_laysWork 29 = .ok (.iconst 0, 1) := dk_3 (dk_at dksX7_laysWork_1 5 rfl rfl)
theorem dX7_laysWork_30 : decode cX7_laysWork 30 = .ok (.iastore, 1) := dk_79 (dk_at dksX7_laysWork_1 6 rfl rfl)
theorem dX7_laysWork_31 : decode cX7_laysWork 31 = .ok (.iinc 3 1, 3) := dk_132 3 1 (dk_at dksX7_laysWork_1 7 rfl rfl)
theorem dX7_laysWork_34 : decode cX7_laysWork 34 = .ok (.goto (-24), 3) := dk_167 255 232 (dk_at dksX7_laysWork_1 10 rfl rfl)
theorem dX7_laysWork_37 : decode cX7_laysWork 37 = .ok (.iinc 2 1, 3) := dk_132 2 1 (dk_at dksX7_laysWork_1 13 rfl rfl)
theorem dX7_laysWork_40 : decode cX7_laysWork 40 = .ok (.goto (-38), 3) := dk_167 255 218 (dk_at dksX7_laysWork_1 16 rfl rfl)
theorem dX7_laysWork_43 : decode cX7_laysWork 43 = .ok (.bipush 7, 2) := dk_16 7 (dk_at dksX7_laysWork_1 19 rfl rfl)
theorem dX7_laysWork_45 : decode cX7_laysWork 45 = .ok (.istore_n 2, 1) := dk_61 (dk_at dksX7_laysWork_1 21 rfl rfl)
theorem dX7_laysWork_46 : decode cX7_laysWork 46 = .ok (.iload_n 2, 1) := dk_28 (dk_at dksX7_laysWork_1 22 rfl rfl)
theorem dX7_laysWork_47 : decode cX7_laysWork 47 = .ok (.ifCond .lt 96, 3) := dk_155 0 96 (dk_at dksX7_laysWork_2 0 rfl rfl)
theorem dX7_laysWork_50 : decode cX7_laysWork 50 = .ok (.iconst 0, 1) := dk_3 (dk_at dksX7_laysWork_2 3 rfl rfl)
theorem dX7_laysWork_51 : decode cX7_laysWork 51 = .ok (.istore_n 3, 1) := dk_62 (dk_at dksX7_laysWork_2 4 rfl rfl)
theorem dX7_laysWork_52 : decode cX7_laysWork 52 = .ok (.iload_n 3, 1) := dk_29 (dk_at dksX7_laysWork_2 5 rfl rfl)
theorem dX7_laysWork_53 : decode cX7_laysWork 53 = .ok (.bipush 60, 2) := dk_16 60 (dk_at dksX7_laysWork_2 6 rfl rfl)
theorem dX7_laysWork_55 : decode cX7_laysWork 55 = .ok (.if_icmp .gt 82, 3) := dk_163 0 82 (dk_at dksX7_laysWork_2 8 rfl rfl)
theorem dX7_laysWork_58 : decode cX7_laysWork 58 = .ok (.iconst 0, 1) := dk_3 (dk_at dksX7_laysWork_2 11 rfl rfl)
theorem dX7_laysWork_59 : decode cX7_laysWork 59 = .ok (.istore 4, 2) := dk_54 4 (dk_at dksX7_laysWork_2 12 rfl rfl)
theorem dX7_laysWork_61 : decode cX7_laysWork 61 = .ok (.iload 4, 2) := dk_21 4 (dk_at dksX7_laysWork_2 14 rfl rfl)
theorem dX7_laysWork_63 : decode cX7_laysWork 63 = .ok (.iload_n 1, 1) := dk_27 (dk_at dksX7_laysWork_2 16 rfl rfl)
theorem dX7_laysWork_64 : decode cX7_laysWork 64 = .ok (.if_icmp .gt 67, 3) := dk_163 0 67 (dk_at dksX7_laysWork_2 17 rfl rfl)
theorem dX7_laysWork_67 : decode cX7_laysWork 67 = .ok (.ldc 245, 2) := dk_18 245 (dk_at dksX7_laysWork_2 20 rfl rfl)
theorem dX7_laysWork_69 : decode cX7_laysWork 69 = .ok (.istore 5, 2) := dk_54 5 (dk_at dksX7_laysWork_2 22 rfl rfl)
theorem dX7_laysWork_71 : decode cX7_laysWork 71 = .ok (.bipush (-9), 2) := dk_16 247 (dk_at dksX7_laysWork_3 0 rfl rfl)
theorem dX7_laysWork_73 : decode cX7_laysWork 73 = .ok (.istore 6, 2) := dk_54 6 (dk_at dksX7_laysWork_3 2 rfl rfl)
theorem dX7_laysWork_75 : decode cX7_laysWork 75 = .ok (.iload 6, 2) := dk_21 6 (dk_at dksX7_laysWork_3 4 rfl rfl)
theorem dX7_laysWork_77 : decode cX7_laysWork 77 = .ok (.bipush 9, 2) := dk_16 9 (dk_at dksX7_laysWork_3 6 rfl rfl)
theorem dX7_laysWork_79 : decode cX7_laysWork 79 = .ok (.if_icmp .gt 26, 3) := dk_163 0 26 (dk_at dksX7_laysWork_3 8 rfl rfl)
theorem dX7_laysWork_82 : decode cX7_laysWork 82 = .ok (.iload 5, 2) := dk_21 5 (dk_at dksX7_laysWork_3 11 rfl rfl)
theorem dX7_laysWork_84 : decode cX7_laysWork 84 = .ok (.aload_n 0, 1) := dk_42 (dk_at dksX7_laysWork_3 13 rfl rfl)
theorem dX7_laysWork_85 : decode cX7_laysWork 85 = .ok (.iload_n 2, 1) := dk_28 (dk_at dksX7_laysWork_3 14 rfl rfl)
theorem dX7_laysWork_86 : decode cX7_laysWork 86 = .ok (.iload 6, 2) := dk_21 6 (dk_at dksX7_laysWork_3 15 rfl rfl)
theorem dX7_laysWork_88 : decode cX7_laysWork 88 = .ok (.iload_n 3, 1) := dk_29 (dk_at dksX7_laysWork_3 17 rfl rfl)
theorem dX7_laysWork_89 : decode cX7_laysWork 89 = .ok (.iload 4, 2) := dk_21 4 (dk_at dksX7_laysWork_3 18 rfl rfl)
theorem dX7_laysWork_91 : decode cX7_laysWork 91 = .ok (.invokevirtual 382, 3) := dk_182 1 126 (dk_at dksX7_laysWork_3 20 rfl rfl)
theorem dX7_laysWork_94 : decode cX7_laysWork 94 = .ok (.invokestatic 249, 3) := dk_184 0 249 (dk_at dksX7_laysWork_4 0 rfl rfl)
theorem dX7_laysWork_97 : decode cX7_laysWork 97 = .ok (.istore 5, 2) := dk_54 5 (dk_at dksX7_laysWork_4 3 rfl rfl)
theorem dX7_laysWork_99 : decode cX7_laysWork 99 = .ok (.iinc 6 1, 3) := dk_132 6 1 (dk_at dksX7_laysWork_4 5 rfl rfl)
theorem dX7_laysWork_102 : decode cX7_laysWork 102 = .ok (.goto (-27), 3) := dk_167 255 229 (dk_at dksX7_laysWork_4 8 rfl rfl)
theorem dX7_laysWork_105 : decode cX7_laysWork 105 = .ok (.aload_n 0, 1) := dk_42 (dk_at dksX7_laysWork_4 11 rfl rfl)
theorem dX7_laysWork_106 : decode cX7_laysWork 106 = .ok (.getfield 91, 3) := dk_180 0 91 (dk_at dksX7_laysWork_4 12 rfl rfl)
theorem dX7_laysWork_109 : decode cX7_laysWork 109 = .ok (.sipush 3721, 3) := dk_17 14 137 (dk_at dksX7_laysWork_4 15 rfl rfl)
theorem dX7_laysWork_112 : decode cX7_laysWork 112 = .ok (.iload_n 2, 1) := dk_28 (dk_at dksX7_laysWork_4 18 rfl rfl)
theorem dX7_laysWork_113 : decode cX7_laysWork 113 = .ok (.imul, 1) := dk_104 (dk_at dksX7_laysWork_4 19 rfl rfl)
theorem dX7_laysWork_114 : decode cX7_laysWork 114 = .ok (.bipush 61, 2) := dk_16 61 (dk_at dksX7_laysWork_4 20 rfl rfl)
theorem dX7_laysWork_116 : decode cX7_laysWork 116 = .ok (.iload_n 3, 1) := dk_29 (dk_at dksX7_laysWork_4 22 rfl rfl)
theorem dX7_laysWork_117 : decode cX7_laysWork 117 = .ok (.imul, 1) := dk_104 (dk_at dksX7_laysWork_4 23 rfl rfl)
theorem dX7_laysWork_118 : decode cX7_laysWork 118 = .ok (.iadd, 1) := dk_96 (dk_at dksX7_laysWork_5 0 rfl rfl)
theorem dX7_laysWork_119 : decode cX7_laysWork 119 = .ok (.iload 4, 2) := dk_21 4 (dk_at dksX7_laysWork_5 1 rfl rfl)
theorem dX7_laysWork_121 : decode cX7_laysWork 121 = .ok (.iadd, 1) := dk_96 (dk_at dksX7_laysWork_5 3 rfl rfl)
theorem dX7_laysWork_122 : decode cX7_laysWork 122 = .ok (.iload 5, 2) := dk_21 5 (dk_at dksX7_laysWork_5 4 rfl rfl)
theorem dX7_laysWork_124 : decode cX7_laysWork 124 = .ok (.iastore, 1) := dk_79 (dk_at dksX7_laysWork_5 6 rfl rfl)
theorem dX7_laysWork_125 : decode cX7_laysWork 125 = .ok (.iinc 4 1, 3) := dk_132 4 1 (dk_at dksX7_laysWork_5 7 rfl rfl)
theorem dX7_laysWork_128 : decode cX7_laysWork 128 = .ok (.goto (-67), 3) := dk_167 255 189 (dk_at dksX7_laysWork_5 10 rfl rfl)
theorem dX7_laysWork_131 : decode cX7_laysWork 131 = .ok (.iinc 3 1, 3) := dk_132 3 1 (dk_at dksX7_laysWork_5 13 rfl rfl)
theorem dX7_laysWork_134 : decode cX7_laysWork 134 = .ok (.goto (-82), 3) := dk_167 255 174 (dk_at dksX7_laysWork_5 16 rfl rfl)
theorem dX7_laysWork_137 : decode cX7_laysWork 137 = .ok (.iinc 2 (-1), 3) := dk_132 2 255 (dk_at dksX7_laysWork_5 19 rfl rfl)
theorem dX7_laysWork_140 : decode cX7_laysWork 140 = .ok (.goto (-94), 3) := dk_167 255 162 (dk_at dksX7_laysWork_6 0 rfl rfl)
theorem dX7_laysWork_143 : decode cX7_laysWork 143 = .ok (.return_, 1) := dk_177 (dk_at dksX7_laysWork_6 3 rfl rfl)
abbrev cX7_workBy : ByteArray := prog_21_method_91_code
def yX7_workBy : MethodName := ⟨RX7, "workBy", "(IIII)I"⟩
def dkwX7_workBy_4 : List UInt8 := [21, 7, 28, 42, 42, 180, 1, 123, 27, 182, 0, 236, 100, 184, 0, 239, 96, 172]
abbrev dktX7_workBy_4 : List UInt8 := dkwX7_workBy_4 ++ []
def dkwX7_workBy_3 : List UInt8 := [27, 4, 96, 21, 5, 21, 6, 182, 1, 120, 54, 7, 21, 7, 18, 245, 160, 0, 8, 18, 245, 167, 0, 20]
abbrev dktX7_workBy_3 : List UInt8 := dkwX7_workBy_3 ++ dktX7_workBy_4
def dkwX7_workBy_2 : List UInt8 := [182, 0, 236, 96, 184, 0, 239, 100, 54, 6, 21, 5, 155, 0, 8, 21, 6, 156, 0, 6, 18, 245, 172, 42]
abbrev dktX7_workBy_2 : List UInt8 := dkwX7_workBy_2 ++ dktX7_workBy_3
def dkwX7_workBy_1 : List UInt8 := [180, 1, 117, 2, 160, 0, 8, 21, 4, 167, 0, 23, 21, 4, 28, 42, 42, 180, 1, 117, 16, 7, 27, 100]
abbrev dktX7_workBy_1 : List UInt8 := dkwX7_workBy_1 ++ dktX7_workBy_2
def dkwX7_workBy_0 : List UInt8 := [29, 28, 42, 42, 180, 1, 114, 16, 7, 27, 100, 182, 0, 236, 96, 184, 0, 239, 100, 54, 5, 42]
abbrev dktX7_workBy_0 : List UInt8 := dkwX7_workBy_0 ++ dktX7_workBy_1
theorem dksX7_workBy_0 : cX7_workBy.data.toList.drop 0 = dktX7_workBy_0 := by decide +kernel
theorem dksX7_workBy_1 : cX7_workBy.data.toList.drop 22 = dktX7_workBy_1 := dk_seg dksX7_workBy_0 22 rfl rfl
theorem dksX7_workBy_2 : cX7_workBy.data.toList.drop 46 = dktX7_workBy_2 := dk_seg dksX7_workBy_1 24 rfl rfl
theorem dksX7_workBy_3 : cX7_workBy.data.toList.drop 70 = dktX7_workBy_3 := dk_seg dksX7_workBy_2 24 rfl rfl
theorem dksX7_workBy_4 : cX7_workBy.data.toList.drop 94 = dktX7_workBy_4 := dk_seg dksX7_workBy_3 24 rfl rfl
theorem dX7_workBy_0 : decode cX7_workBy 0 = .ok (.iload_n 3, 1) := dk_29 (dk_at dksX7_workBy_0 0 rfl rfl)
theorem dX7_workBy_1 : decode cX7_workBy 1 = .ok (.iload_n 2, 1) := dk_28 (dk_at dksX7_workBy_0 1 rfl rfl)
theorem dX7_workBy_2 : decode cX7_workBy 2 = .ok (.aload_n 0, 1) := dk_42 (dk_at dksX7_workBy_0 2 rfl rfl)
theorem dX7_workBy_3 : decode cX7_workBy 3 = .ok (.aload_n 0, 1) := dk_42 (dk_at dksX7_workBy_0 3 rfl rfl)
theorem dX7_workBy_4 : decode cX7_workBy 4 = .ok (.getfield 370, 3) := dk_180 1 114 (dk_at dksX7_workBy_0 4 rfl rfl)
theorem dX7_workBy_7 : decode cX7_workBy 7 = .ok (.bipush 7, 2) := dk_16 7 (dk_at dksX7_workBy_0 7 rfl rfl)
theorem dX7_workBy_9 : decode cX7_workBy 9 = .ok (.iload_n 1, 1) := dk_27 (dk_at dksX7_workBy_0 9 rfl rfl)
theorem dX7_workBy_10 : decode cX7_workBy 10 = .ok (.isub, 1) := dk_100 (dk_at dksX7_workBy_0 10 rfl rfl)
theorem dX7_workBy_11 : decode cX7_workBy 11 = .ok (.invokevirtual 236, 3) := dk_182 0 236 (dk_at dksX7_workBy_0 11 rfl rfl)
theorem dX7_workBy_14 : decode cX7_workBy 14 = .ok (.iadd, 1) := dk_96 (dk_at dksX7_workBy_0 14 rfl rfl)
theorem dX7_workBy_15 : decode cX7_workBy 15 = .ok (.invokestatic 239, 3) := dk_184 0 239 (dk_at dksX7_workBy_0 15 rfl rfl)
theorem dX7_workBy_18 : decode cX7_workBy 18 = .ok (.isub, 1) := dk_100 (dk_at dksX7_workBy_0 18 rfl rfl)
theorem dX7_workBy_19 : decode cX7_workBy 19 = .ok (.istore 5, 2) := dk_54 5 (dk_at dksX7_workBy_0 19 rfl rfl)
theorem dX7_workBy_21 : decode cX7_workBy 21 = .ok (.aload_n 0, 1) := dk_42 (dk_at dksX7_workBy_0 21 rfl rfl)
theorem dX7_workBy_22 : decode cX7_workBy 22 = .ok (.getfield 373, 3) := dk_180 1 117 (dk_at dksX7_workBy_1 0 rfl rfl)
theorem dX7_workBy_25 : decode cX7_workBy 25 = .ok (.iconst (-1), 1) := dk_2 (dk_at dksX7_workBy_1 3 rfl rfl)
theorem dX7_workBy_26 : decode cX7_workBy 26 = .ok (.if_icmp .ne 8, 3) := dk_160 0 8 (dk_at dksX7_workBy_1 4 rfl rfl)
theorem dX7_workBy_29 : decode cX7_workBy 29 = .ok (.iload 4, 2) := dk_21 4 (dk_at dksX7_workBy_1 7 rfl rfl)
theorem dX7_workBy_31 : decode cX7_workBy 31 = .ok (.goto 23, 3) := dk_167 0 23 (dk_at dksX7_workBy_1 9 rfl rfl)
theorem dX7_workBy_34 : decode cX7_workBy 34 = .ok (.iload 4, 2) := dk_21 4 (dk_at dksX7_workBy_1 12 rfl rfl)
theorem dX7_workBy_36 : decode cX7_workBy 36 = .ok (.iload_n 2, 1) := dk_28 (dk_at dksX7_workBy_1 14 rfl rfl)
theorem dX7_workBy_37 : decode cX7_workBy 37 = .ok (.aload_n 0, 1) := dk_42 (dk_at dksX7_workBy_1 15 rfl rfl)
theorem dX7_workBy_38 : decode cX7_workBy 38 = .ok (.aload_n 0, 1) := dk_42 (dk_at dksX7_workBy_1 16 rfl rfl)
theorem dX7_workBy_39 : decode cX7_workBy 39 = .ok (.getfield 373, 3) := dk_180 1 117 (dk_at dksX7_workBy_1 17 rfl rfl)
theorem dX7_workBy_42 : decode cX7_workBy 42 = .ok (.bipush 7, 2) := dk_16 7 (dk_at dksX7_workBy_1 20 rfl rfl)
theorem dX7_workBy_44 : decode cX7_workBy 44 = .ok (.iload_n 1, 1) := dk_27 (dk_at dksX7_workBy_1 22 rfl rfl)
theorem dX7_workBy_45 : decode cX7_workBy 45 = .ok (.isub, 1) := dk_100 (dk_at dksX7_workBy_1 23 rfl rfl)
theorem dX7_workBy_46 : decode cX7_workBy 46 = .ok (.invokevirtual 236, 3) := dk_182 0 236 (dk_at dksX7_workBy_2 0 rfl rfl)
theorem dX7_workBy_49 : decode cX7_workBy 49 = .ok (.iadd, 1) := dk_96 (dk_at dksX7_workBy_2 3 rfl rfl)
theorem dX7_workBy_50 : decode cX7_workBy 50 = .ok (.invokestatic 239, 3) := dk_184 0 239 (dk_at dksX7_workBy_2 4 rfl rfl)
theorem dX7_workBy_53 : decode cX7_workBy 53 = .ok (.isub, 1) := dk_100 (dk_at dksX7_workBy_2 7 rfl rfl)
theorem dX7_workBy_54 : decode cX7_workBy 54 = .ok (.istore 6, 2) := dk_54 6 (dk_at dksX7_workBy_2 8 rfl rfl)
theorem dX7_workBy_56 : decode cX7_workBy 56 = .ok (.iload 5, 2) := dk_21 5 (dk_at dksX7_workBy_2 10 rfl rfl)
theorem dX7_workBy_58 : decode cX7_workBy 58 = .ok (.ifCond .lt 8, 3) := dk_155 0 8 (dk_at dksX7_workBy_2 12 rfl rfl)
theorem dX7_workBy_61 : decode cX7_workBy 61 = .ok (.iload 6, 2) := dk_21 6 (dk_at dksX7_workBy_2 15 rfl rfl)
theorem dX7_workBy_63 : decode cX7_workBy 63 = .ok (.ifCond .ge 6, 3) := dk_156 0 6 (dk_at dksX7_workBy_2 17 rfl rfl)
theorem dX7_workBy_66 : decode cX7_workBy 66 = .ok (.ldc 245, 2) := dk_18 245 (dk_at dksX7_workBy_2 20 rfl rfl)
theorem dX7_workBy_68 : decode cX7_workBy 68 = .ok (.ireturn, 1) := dk_172 (dk_at dksX7_workBy_2 22 rfl rfl)
theorem dX7_workBy_69 : decode cX7_workBy 69 = .ok (.aload_n 0, 1) := dk_42 (dk_at dksX7_workBy_2 23 rfl rfl)
theorem dX7_workBy_70 : decode cX7_workBy 70 = .ok (.iload_n 1, 1) := dk_27 (dk_at dksX7_workBy_3 0 rfl rfl)
theorem dX7_workBy_71 : decode cX7_workBy 71 = .ok (.iconst 1, 1) := dk_4 (dk_at dksX7_workBy_3 1 rfl rfl)
theorem dX7_workBy_72 : decode cX7_workBy 72 = .ok (.iadd, 1) := dk_96 (dk_at dksX7_workBy_3 2 rfl rfl)
theorem dX7_workBy_73 : decode cX7_workBy 73 = .ok (.iload 5, 2) := dk_21 5 (dk_at dksX7_workBy_3 3 rfl rfl)
theorem dX7_workBy_75 : decode cX7_workBy 75 = .ok (.iload 6, 2) := dk_21 6 (dk_at dksX7_workBy_3 5 rfl rfl)
theorem dX7_workBy_77 : decode cX7_workBy 77 = .ok (.invokevirtual 376, 3) := dk_182 1 120 (dk_at dksX7_workBy_3 7 rfl rfl)
theorem dX7_workBy_80 : decode cX7_workBy 80 = .ok (.istore 7, 2) := dk_54 7 (dk_at dksX7_workBy_3 10 rfl rfl)
theorem dX7_workBy_82 : decode cX7_workBy 82 = .ok (.iload 7, 2) := dk_21 7 (dk_at dksX7_workBy_3 12 rfl rfl)
theorem dX7_workBy_84 : decode cX7_workBy 84 = .ok (.ldc 245, 2) := dk_18 245 (dk_at dksX7_workBy_3 14 rfl rfl)
theorem dX7_workBy_86 : decode cX7_workBy 86 = .ok (.if_icmp .ne 8, 3) := dk_160 0 8 (dk_at dksX7_workBy_3 16 rfl rfl)
theorem dX7_workBy_89 : decode cX7_workBy 89 = .ok (.ldc 245, 2) := dk_18 245 (dk_at dksX7_workBy_3 19 rfl rfl)
theorem dX7_workBy_91 : decode cX7_workBy 91 = .ok (.goto 20, 3) := dk_167 0 20 (dk_at dksX7_workBy_3 21 rfl rfl)
theorem dX7_workBy_94 : decode cX7_workBy 94 = .ok (.iload 7, 2) := dk_21 7 (dk_at dksX7_workBy_4 0 rfl rfl)
theorem dX7_workBy_96 : decode cX7_workBy 96 = .ok (.iload_n 2, 1) := dk_28 (dk_at dksX7_workBy_4 2 rfl rfl)
theorem dX7_workBy_97 : decode cX7_workBy 97 = .ok (.aload_n 0, 1) := dk_42 (dk_at dksX7_workBy_4 3 rfl rfl)
theorem dX7_workBy_98 : decode cX7_workBy 98 = .ok (.aload_n 0, 1) := dk_42 (dk_at dksX7_workBy_4 4 rfl rfl)
theorem dX7_workBy_99 : decode cX7_workBy 99 = .ok (.getfield 379, 3) := dk_180 1 123 (dk_at dksX7_workBy_4 5 rfl rfl)
theorem dX7_workBy_102 : decode cX7_workBy 102 = .ok (.iload_n 1, 1) := dk_27 (dk_at dksX7_workBy_4 8 rfl rfl)
theorem dX7_workBy_103 : decode cX7_workBy 103 = .ok (.invokevirtual 236, 3) := dk_182 0 236 (dk_at dksX7_workBy_4 9 rfl rfl)
theorem dX7_workBy_106 : decode cX7_workBy 106 = .ok (.isub, 1) := dk_100 (dk_at dksX7_workBy_4 12 rfl rfl)
theorem dX7_workBy_107 : decode cX7_workBy 107 = .ok (.invokestatic 239, 3) := dk_184 0 239 (dk_at dksX7_workBy_4 13 rfl rfl)
theorem dX7_workBy_110 : decode cX7_workBy 110 = .ok (.iadd, 1) := dk_96 (dk_at dksX7_workBy_4 16 rfl rfl)
theorem dX7_workBy_111 : decode cX7_workBy 111 = .ok (.ireturn, 1) := dk_172 (dk_at dksX7_workBy_4 17 rfl rfl)
abbrev cX7_workAt : ByteArray := prog_21_method_90_code
def yX7_workAt : MethodName := ⟨RX7, "workAt", "(III)I"⟩
def dkwX7_workAt_0 : List UInt8 := [42, 180, 0, 91, 17, 14, 137, 27, 104, 16, 61, 28, 104, 96, 29, 96, 46, 172]
abbrev dktX7_workAt_0 : List UInt8 := dkwX7_workAt_0 ++ []
theorem dksX7_workAt_0 : cX7_workAt.data.toList.drop 0 = dktX7_workAt_0 := by decide +kernel
theorem dX7_workAt_0 : decode cX7_workAt 0 = .ok (.aload_n 0, 1) := dk_42 (dk_at dksX7_workAt_0 0 rfl rfl)
theorem dX7_workAt_1 : decode cX7_workAt 1 = .ok (.getfield 91, 3) := dk_180 0 91 (dk_at dksX7_workAt_0 1 rfl rfl)
theorem dX7_workAt_4 : decode cX7_workAt 4 = .ok (.sipush 3721, 3) := dk_17 14 137 (dk_at dksX7_workAt_0 4 rfl rfl)
theorem dX7_workAt_7 : decode cX7_workAt 7 = .ok (.iload_n 1, 1) := dk_27 (dk_at dksX7_workAt_0 7 rfl rfl)
theorem dX7_workAt_8 : decode cX7_workAt 8 = .ok (.imul, 1) := dk_104 (dk_at dksX7_workAt_0 8 rfl rfl)
theorem dX7_workAt_9 : decode cX7_workAt 9 = .ok (.bipush 61, 2) := dk_16 61 (dk_at dksX7_workAt_0 9 rfl rfl)
theorem dX7_workAt_11 : decode cX7_workAt 11 = .ok (.iload_n 2, 1) := dk_28 (dk_at dksX7_workAt_0 11 rfl rfl)
theorem dX7_workAt_12 : decode cX7_workAt 12 = .ok (.imul, 1) := dk_104 (dk_at dksX7_workAt_0 12 rfl rfl)
theorem dX7_workAt_13 : decode cX7_workAt 13 = .ok (.iadd, 1) := dk_96 (dk_at dksX7_workAt_0 13 rfl rfl)
theorem dX7_workAt_14 : decode cX7_workAt 14 = .ok (.iload_n 3, 1) := dk_29 (dk_at dksX7_workAt_0 14 rfl rfl)
theorem dX7_workAt_15 : decode cX7_workAt 15 = .ok (.iadd, 1) := dk_96 (dk_at dksX7_workAt_0 15 rfl rfl)
theorem dX7_workAt_16 : decode cX7_workAt 16 = .ok (.iaload, 1) := dk_46 (dk_at dksX7_workAt_0 16 rfl rfl)
theorem dX7_workAt_17 : decode cX7_workAt 17 = .ok (.ireturn, 1) := dk_172 (dk_at dksX7_workAt_0 17 rfl rfl)
abbrev cX7_laysSanded : ByteArray := prog_21_method_93_code
def yX7_laysSanded : MethodName := ⟨RX7, "laysSanded", "(II)V"⟩
def dkwX7_laysSanded_5 : List UInt8 := [132, 5, 1, 167, 255, 142, 177]
abbrev dktX7_laysSanded_5 : List UInt8 := dkwX7_laysSanded_5 ++ []
def dkwX7_laysSanded_4 : List UInt8 := [21, 4, 21, 6, 42, 42, 180, 1, 117, 16, 7, 21, 5, 100, 182, 0, 236, 96, 184, 0, 239, 100, 54, 4]
abbrev dktX7_laysSanded_4 : List UInt8 := dkwX7_laysSanded_4 ++ dktX7_laysSanded_5
def dkwX7_laysSanded_3 : List UInt8 := [100, 182, 0, 236, 96, 184, 0, 239, 100, 62, 42, 180, 1, 117, 2, 160, 0, 8, 21, 4, 167, 0, 25]
abbrev dktX7_laysSanded_3 : List UInt8 := dkwX7_laysSanded_3 ++ dktX7_laysSanded_4
def dkwX7_laysSanded_2 : List UInt8 := [167, 255, 227, 42, 180, 0, 94, 21, 5, 21, 6, 79, 29, 21, 6, 42, 42, 180, 1, 114, 16, 7, 21, 5]
abbrev dktX7_laysSanded_2 : List UInt8 := dkwX7_laysSanded_2 ++ dktX7_laysSanded_3
def dkwX7_laysSanded_1 : List UInt8 := [29, 21, 4, 182, 1, 126, 42, 21, 5, 29, 21, 4, 182, 1, 120, 159, 0, 12, 21, 6, 4, 96, 54, 6]
abbrev dktX7_laysSanded_1 : List UInt8 := dkwX7_laysSanded_1 ++ dktX7_laysSanded_2
def dkwX7_laysSanded_0 : List UInt8 := [27, 62, 28, 54, 4, 3, 54, 5, 21, 5, 16, 8, 162, 0, 113, 16, 247, 54, 6, 42, 21, 5, 21, 6]
abbrev dktX7_laysSanded_0 : List UInt8 := dkwX7_laysSanded_0 ++ dktX7_laysSanded_1
theorem dksX7_laysSanded_0 : cX7_laysSanded.data.toList.drop 0 = dktX7_laysSanded_0 := by decide +kernel
theorem dksX7_laysSanded_1 : cX7_laysSanded.data.toList.drop 24 = dktX7_laysSanded_1 := dk_seg dksX7_laysSanded_0 24 rfl rfl
theorem dksX7_laysSanded_2 : cX7_laysSanded.data.toList.drop 48 = dktX7_laysSanded_2 := dk_seg dksX7_laysSanded_1 24 rfl rfl
theorem dksX7_laysSanded_3 : cX7_laysSanded.data.toList.drop 72 = dktX7_laysSanded_3 := dk_seg dksX7_laysSanded_2 24 rfl rfl
theorem dksX7_laysSanded_4 : cX7_laysSanded.data.toList.drop 95 = dktX7_laysSanded_4 := dk_seg dksX7_laysSanded_3 23 rfl rfl
theorem dksX7_laysSanded_5 : cX7_laysSanded.data.toList.drop 119 = dktX7_laysSanded_5 := dk_seg dksX7_laysSanded_4 24 rfl rfl
theorem dX7_laysSanded_0 : decode cX7_laysSanded 0 = .ok (.iload_n 1, 1) := dk_27 (dk_at dksX7_laysSanded_0 0 rfl rfl)
theorem dX7_laysSanded_1 : decode cX7_laysSanded 1 = .ok (.istore_n 3, 1) := dk_62 (dk_at dksX7_laysSanded_0 1 rfl rfl)
theorem dX7_laysSanded_2 : decode cX7_laysSanded 2 = .ok (.iload_n 2, 1) := dk_28 (dk_at dksX7_laysSanded_0 2 rfl rfl)
theorem dX7_laysSanded_3 : decode cX7_laysSanded 3 = .ok (.istore 4, 2) := dk_54 4 (dk_at dksX7_laysSanded_0 3 rfl rfl)
theorem dX7_laysSanded_5 : decode cX7_laysSanded 5 = .ok (.iconst 0, 1) := dk_3 (dk_at dksX7_laysSanded_0 5 rfl rfl)
theorem dX7_laysSanded_6 : decode cX7_laysSanded 6 = .ok (.istore 5, 2) := dk_54 5 (dk_at dksX7_laysSanded_0 6 rfl rfl)
theorem dX7_laysSanded_8 : decode cX7_laysSanded 8 = .ok (.iload 5, 2) := dk_21 5 (dk_at dksX7_laysSanded_0 8 rfl rfl)
theorem dX7_laysSanded_10 : decode cX7_laysSanded 10 = .ok (.bipush 8, 2) := dk_16 8 (dk_at dksX7_laysSanded_0 10 rfl rfl)
theorem dX7_laysSanded_12 : decode cX7_laysSanded 12 = .ok (.if_icmp .ge 113, 3) := dk_162 0 113 (dk_at dksX7_laysSanded_0 12 rfl rfl)
theorem dX7_laysSanded_15 : decode cX7_laysSanded 15 = .ok (.bipush (-9), 2) := dk_16 247 (dk_at dksX7_laysSanded_0 15 rfl rfl)
theorem dX7_laysSanded_17 : decode cX7_laysSanded 17 = .ok (.istore 6, 2) := dk_54 6 (dk_at dksX7_laysSanded_0 17 rfl rfl)
theorem dX7_laysSanded_19 : decode cX7_laysSanded 19 = .ok (.aload_n 0, 1) := dk_42 (dk_at dksX7_laysSanded_0 19 rfl rfl)
theorem dX7_laysSanded_20 : decode cX7_laysSanded 20 = .ok (.iload 5, 2) := dk_21 5 (dk_at dksX7_laysSanded_0 20 rfl rfl)
theorem dX7_laysSanded_22 : decode cX7_laysSanded 22 = .ok (.iload 6, 2) := dk_21 6 (dk_at dksX7_laysSanded_0 22 rfl rfl)
theorem dX7_laysSanded_24 : decode cX7_laysSanded 24 = .ok (.iload_n 3, 1) := dk_29 (dk_at dksX7_laysSanded_1 0 rfl rfl)
theorem dX7_laysSanded_25 : decode cX7_laysSanded 25 = .ok (.iload 4, 2) := dk_21 4 (dk_at dksX7_laysSanded_1 1 rfl rfl)
theorem dX7_laysSanded_27 : decode cX7_laysSanded 27 = .ok (.invokevirtual 382, 3) := dk_182 1 126 (dk_at dksX7_laysSanded_1 3 rfl rfl)
theorem dX7_laysSanded_30 : decode cX7_laysSanded 30 = .ok (.aload_n 0, 1) := dk_42 (dk_at dksX7_laysSanded_1 6 rfl rfl)
theorem dX7_laysSanded_31 : decode cX7_laysSanded 31 = .ok (.iload 5, 2) := dk_21 5 (dk_at dksX7_laysSanded_1 7 rfl rfl)
theorem dX7_laysSanded_33 : decode cX7_laysSanded 33 = .ok (.iload_n 3, 1) := dk_29 (dk_at dksX7_laysSanded_1 9 rfl rfl)
theorem dX7_laysSanded_34 : decode cX7_laysSanded 34 = .ok (.iload 4, 2) := dk_21 4 (dk_at dksX7_laysSanded_1 10 rfl rfl)
theorem dX7_laysSanded_36 : decode cX7_laysSanded 36 = .ok (.invokevirtual 376, 3) := dk_182 1 120 (dk_at dksX7_laysSanded_1 12 rfl rfl)
theorem dX7_laysSanded_39 : decode cX7_laysSanded 39 = .ok (.if_icmp .eq 12, 3) := dk_159 0 12 (dk_at dksX7_laysSanded_1 15 rfl rfl)
theorem dX7_laysSanded_42 : decode cX7_laysSanded 42 = .ok (.iload 6, 2) := dk_21 6 (dk_at dksX7_laysSanded_1 18 rfl rfl)
theorem dX7_laysSanded_44 : decode cX7_laysSanded 44 = .ok (.iconst 1, 1) := dk_4 (dk_at dksX7_laysSanded_1 20 rfl rfl)
theorem dX7_laysSanded_45 : decode cX7_laysSanded 45 = .ok (.iadd, 1) := dk_96 (dk_at dksX7_laysSanded_1 21 rfl rfl)
theorem dX7_laysSanded_46 : decode cX7_laysSanded 46 = .ok (.istore 6, 2) := dk_54 6 (dk_at dksX7_laysSanded_1 22 rfl rfl)
theorem dX7_laysSanded_48 : decode cX7_laysSanded 48 = .ok (.goto (-29), 3) := dk_167 255 227 (dk_at dksX7_laysSanded_2 0 rfl rfl)
theorem dX7_laysSanded_51 : decode cX7_laysSanded 51 = .ok (.aload_n 0, 1) := dk_42 (dk_at dksX7_laysSanded_2 3 rfl rfl)
theorem dX7_laysSanded_52 : decode cX7_laysSanded 52 = .ok (.getfield 94, 3) := dk_180 0 94 (dk_at dksX7_laysSanded_2 4 rfl rfl)
theorem dX7_laysSanded_55 : decode cX7_laysSanded 55 = .ok (.iload 5, 2) := dk_21 5 (dk_at dksX7_laysSanded_2 7 rfl rfl)
theorem dX7_laysSanded_57 : decode cX7_laysSanded 57 = .ok (.iload 6, 2) := dk_21 6 (dk_at dksX7_laysSanded_2 9 rfl rfl)
theorem dX7_laysSanded_59 : decode cX7_laysSanded 59 = .ok (.iastore, 1) := dk_79 (dk_at dksX7_laysSanded_2 11 rfl rfl)
theorem dX7_laysSanded_60 : decode cX7_laysSanded 60 = .ok (.iload_n 3, 1) := dk_29 (dk_at dksX7_laysSanded_2 12 rfl rfl)
theorem dX7_laysSanded_61 : decode cX7_laysSanded 61 = .ok (.iload 6, 2) := dk_21 6 (dk_at dksX7_laysSanded_2 13 rfl rfl)
theorem dX7_laysSanded_63 : decode cX7_laysSanded 63 = .ok (.aload_n 0, 1) := dk_42 (dk_at dksX7_laysSanded_2 15 rfl rfl)
theorem dX7_laysSanded_64 : decode cX7_laysSanded 64 = .ok (.aload_n 0, 1) := dk_42 (dk_at dksX7_laysSanded_2 16 rfl rfl)
theorem dX7_laysSanded_65 : decode cX7_laysSanded 65 = .ok (.getfield 370, 3) := dk_180 1 114 (dk_at dksX7_laysSanded_2 17 rfl rfl)
theorem dX7_laysSanded_68 : decode cX7_laysSanded 68 = .ok (.bipush 7, 2) := dk_16 7 (dk_at dksX7_laysSanded_2 20 rfl rfl)
theorem dX7_laysSanded_70 : decode cX7_laysSanded 70 = .ok (.iload 5, 2) := dk_21 5 (dk_at dksX7_laysSanded_2 22 rfl rfl)
theorem dX7_laysSanded_72 : decode cX7_laysSanded 72 = .ok (.isub, 1) := dk_100 (dk_at dksX7_laysSanded_3 0 rfl rfl)
theorem dX7_laysSanded_73 : decode cX7_laysSanded 73 = .ok (.invokevirtual 236, 3) := dk_182 0 236 (dk_at dksX7_laysSanded_3 1 rfl rfl)
theorem dX7_laysSanded_76 : decode cX7_laysSanded 76 = .ok (.iadd, 1) := dk_96 (dk_at dksX7_laysSanded_3 4 rfl rfl)
theorem dX7_laysSanded_77 : decode cX7_laysSanded 77 = .ok (.invokestatic 239, 3) := dk_184 0 239 (dk_at dksX7_laysSanded_3 5 rfl rfl)
theorem dX7_laysSanded_80 : decode cX7_laysSanded 80 = .ok (.isub, 1) := dk_100 (dk_at dksX7_laysSanded_3 8 rfl rfl)
theorem dX7_laysSanded_81 : decode cX7_laysSanded 81 = .ok (.istore_n 3, 1) := dk_62 (dk_at dksX7_laysSanded_3 9 rfl rfl)
theorem dX7_laysSanded_82 : decode cX7_laysSanded 82 = .ok (.aload_n 0, 1) := dk_42 (dk_at dksX7_laysSanded_3 10 rfl rfl)
theorem dX7_laysSanded_83 : decode cX7_laysSanded 83 = .ok (.getfield 373, 3) := dk_180 1 117 (dk_at dksX7_laysSanded_3 11 rfl rfl)
theorem dX7_laysSanded_86 : decode cX7_laysSanded 86 = .ok (.iconst (-1), 1) := dk_2 (dk_at dksX7_laysSanded_3 14 rfl rfl)
theorem dX7_laysSanded_87 : decode cX7_laysSanded 87 = .ok (.if_icmp .ne 8, 3) := dk_160 0 8 (dk_at dksX7_laysSanded_3 15 rfl rfl)
theorem dX7_laysSanded_90 : decode cX7_laysSanded 90 = .ok (.iload 4, 2) := dk_21 4 (dk_at dksX7_laysSanded_3 18 rfl rfl)
theorem dX7_laysSanded_92 : decode cX7_laysSanded 92 = .ok (.goto 25, 3) := dk_167 0 25 (dk_at dksX7_laysSanded_3 20 rfl rfl)
theorem dX7_laysSanded_95 : decode cX7_laysSanded 95 = .ok (.iload 4, 2) := dk_21 4 (dk_at dksX7_laysSanded_4 0 rfl rfl)
theorem dX7_laysSanded_97 : decode cX7_laysSanded 97 = .ok (.iload 6, 2) := dk_21 6 (dk_at dksX7_laysSanded_4 2 rfl rfl)
theorem dX7_laysSanded_99 : decode cX7_laysSanded 99 = .ok (.aload_n 0, 1) := dk_42 (dk_at dksX7_laysSanded_4 4 rfl rfl)
theorem dX7_laysSanded_100 : decode cX7_laysSanded 100 = .ok (.aload_n 0, 1) := dk_42 (dk_at dksX7_laysSanded_4 5 rfl rfl)
theorem dX7_laysSanded_101 : decode cX7_laysSanded 101 = .ok (.getfield 373, 3) := dk_180 1 117 (dk_at dksX7_laysSanded_4 6 rfl rfl)
theorem dX7_laysSanded_104 : decode cX7_laysSanded 104 = .ok (.bipush 7, 2) := dk_16 7 (dk_at dksX7_laysSanded_4 9 rfl rfl)
theorem dX7_laysSanded_106 : decode cX7_laysSanded 106 = .ok (.iload 5, 2) := dk_21 5 (dk_at dksX7_laysSanded_4 11 rfl rfl)
theorem dX7_laysSanded_108 : decode cX7_laysSanded 108 = .ok (.isub, 1) := dk_100 (dk_at dksX7_laysSanded_4 13 rfl rfl)
theorem dX7_laysSanded_109 : decode cX7_laysSanded 109 = .ok (.invokevirtual 236, 3) := dk_182 0 236 (dk_at dksX7_laysSanded_4 14 rfl rfl)
theorem dX7_laysSanded_112 : decode cX7_laysSanded 112 = .ok (.iadd, 1) := dk_96 (dk_at dksX7_laysSanded_4 17 rfl rfl)
theorem dX7_laysSanded_113 : decode cX7_laysSanded 113 = .ok (.invokestatic 239, 3) := dk_184 0 239 (dk_at dksX7_laysSanded_4 18 rfl rfl)
theorem dX7_laysSanded_116 : decode cX7_laysSanded 116 = .ok (.isub, 1) := dk_100 (dk_at dksX7_laysSanded_4 21 rfl rfl)
theorem dX7_laysSanded_117 : decode cX7_laysSanded 117 = .ok (.istore 4, 2) := dk_54 4 (dk_at dksX7_laysSanded_4 22 rfl rfl)
theorem dX7_laysSanded_119 : decode cX7_laysSanded 119 = .ok (.iinc 5 1, 3) := dk_132 5 1 (dk_at dksX7_laysSanded_5 0 rfl rfl)
theorem dX7_laysSanded_122 : decode cX7_laysSanded 122 = .ok (.goto (-114), 3) := dk_167 255 142 (dk_at dksX7_laysSanded_5 3 rfl rfl)
theorem dX7_laysSanded_125 : decode cX7_laysSanded 125 = .ok (.return_, 1) := dk_177 (dk_at dksX7_laysSanded_5 6 rfl rfl)
abbrev cX7_slackOfSanded : ByteArray := prog_21_method_94_code
def yX7_slackOfSanded : MethodName := ⟨RX7, "slackOfSanded", "(I)I"⟩
def dkwX7_slackOfSanded_2 : List UInt8 := [96, 46, 100, 42, 180, 0, 7, 16, 72, 42, 180, 1, 123, 96, 46, 100, 184, 0, 242, 172]
abbrev dktX7_slackOfSanded_2 : List UInt8 := dkwX7_slackOfSanded_2 ++ []
def dkwX7_slackOfSanded_1 : List UInt8 := [182, 0, 236, 96, 184, 0, 239, 96, 61, 132, 3, 1, 167, 255, 225, 3, 28, 42, 180, 0, 7, 16, 72, 27]
abbrev dktX7_slackOfSanded_1 : List UInt8 := dkwX7_slackOfSanded_1 ++ dktX7_slackOfSanded_2
def dkwX7_slackOfSanded_0 : List UInt8 := [3, 61, 3, 62, 29, 16, 8, 162, 0, 31, 28, 42, 180, 0, 94, 29, 46, 42, 27, 16, 7, 29, 100]
abbrev dktX7_slackOfSanded_0 : List UInt8 := dkwX7_slackOfSanded_0 ++ dktX7_slackOfSanded_1
theorem dksX7_slackOfSanded_0 : cX7_slackOfSanded.data.toList.drop 0 = dktX7_slackOfSanded_0 := by decide +kernel
theorem dksX7_slackOfSanded_1 : cX7_slackOfSanded.data.toList.drop 23 = dktX7_slackOfSanded_1 := dk_seg dksX7_slackOfSanded_0 23 rfl rfl
theorem dksX7_slackOfSanded_2 : cX7_slackOfSanded.data.toList.drop 47 = dktX7_slackOfSanded_2 := dk_seg dksX7_slackOfSanded_1 24 rfl rfl
theorem dX7_slackOfSanded_0 : decode cX7_slackOfSanded 0 = .ok (.iconst 0, 1) := dk_3 (dk_at dksX7_slackOfSanded_0 0 rfl rfl)
theorem dX7_slackOfSanded_1 : decode cX7_slackOfSanded 1 = .ok (.istore_n 2, 1) := dk_61 (dk_at dksX7_slackOfSanded_0 1 rfl rfl)
theorem dX7_slackOfSanded_2 : decode cX7_slackOfSanded 2 = .ok (.iconst 0, 1) := dk_3 (dk_at dksX7_slackOfSanded_0 2 rfl rfl)
theorem dX7_slackOfSanded_3 : decode cX7_slackOfSanded 3 = .ok (.istore_n 3, 1) := dk_62 (dk_at dksX7_slackOfSanded_0 3 rfl rfl)
theorem dX7_slackOfSanded_4 : decode cX7_slackOfSanded 4 = .ok (.iload_n 3, 1) := dk_29 (dk_at dksX7_slackOfSanded_0 4 rfl rfl)
theorem dX7_slackOfSanded_5 : decode cX7_slackOfSanded 5 = .ok (.bipush 8, 2) := dk_16 8 (dk_at dksX7_slackOfSanded_0 5 rfl rfl)
theorem dX7_slackOfSanded_7 : decode cX7_slackOfSanded 7 = .ok (.if_icmp .ge 31, 3) := dk_162 0 31 (dk_at dksX7_slackOfSanded_0 7 rfl rfl)
theorem dX7_slackOfSanded_10 : decode cX7_slackOfSanded 10 = .ok (.iload_n 2, 1) := dk_28 (dk_at dksX7_slackOfSanded_0 10 rfl rfl)
theorem dX7_slackOfSanded_11 : decode cX7_slackOfSanded 11 = .ok (.aload_n 0, 1) := dk_42 (dk_at dksX7_slackOfSanded_0 11 rfl rfl)
theorem dX7_slackOfSanded_12 : decode cX7_slackOfSanded 12 = .ok (.getfield 94, 3) := dk_180 0 94 (dk_at dksX7_slackOfSanded_0 12 rfl rfl)
theorem dX7_slackOfSanded_15 : decode cX7_slackOfSanded 15 = .ok (.iload_n 3, 1) := dk_29 (dk_at dksX7_slackOfSanded_0 15 rfl rfl)
theorem dX7_slackOfSanded_16 : decode cX7_slackOfSanded 16 = .ok (.iaload, 1) := dk_46 (dk_at dksX7_slackOfSanded_0 16 rfl rfl)
theorem dX7_slackOfSanded_17 : decode cX7_slackOfSanded 17 = .ok (.aload_n 0, 1) := dk_42 (dk_at dksX7_slackOfSanded_0 17 rfl rfl)
theorem dX7_slackOfSanded_18 : decode cX7_slackOfSanded 18 = .ok (.iload_n 1, 1) := dk_27 (dk_at dksX7_slackOfSanded_0 18 rfl rfl)
theorem dX7_slackOfSanded_19 : decode cX7_slackOfSanded 19 = .ok (.bipush 7, 2) := dk_16 7 (dk_at dksX7_slackOfSanded_0 19 rfl rfl)
theorem dX7_slackOfSanded_21 : decode cX7_slackOfSanded 21 = .ok (.iload_n 3, 1) := dk_29 (dk_at dksX7_slackOfSanded_0 21 rfl rfl)
theorem dX7_slackOfSanded_22 : decode cX7_slackOfSanded 22 = .ok (.isub, 1) := dk_100 (dk_at dksX7_slackOfSanded_0 22 rfl rfl)
theorem dX7_slackOfSanded_23 : decode cX7_slackOfSanded 23 = .ok (.invokevirtual 236, 3) := dk_182 0 236 (dk_at dksX7_slackOfSanded_1 0 rfl rfl)
theorem dX7_slackOfSanded_26 : decode cX7_slackOfSanded 26 = .ok (.iadd, 1) := dk_96 (dk_at dksX7_slackOfSanded_1 3 rfl rfl)
theorem dX7_slackOfSanded_27 : decode cX7_slackOfSanded 27 = .ok (.invokestatic 239, 3) := dk_184 0 239 (dk_at dksX7_slackOfSanded_1 4 rfl rfl)
theorem dX7_slackOfSanded_30 : decode cX7_slackOfSanded 30 = .ok (.iadd, 1) := dk_96 (dk_at dksX7_slackOfSanded_1 7 rfl rfl)
theorem dX7_slackOfSanded_31 : decode cX7_slackOfSanded 31 = .ok (.istore_n 2, 1) := dk_61 (dk_at dksX7_slackOfSanded_1 8 rfl rfl)
theorem dX7_slackOfSanded_32 : decode cX7_slackOfSanded 32 = .ok (.iinc 3 1, 3) := dk_132 3 1 (dk_at dksX7_slackOfSanded_1 9 rfl rfl)
theorem dX7_slackOfSanded_35 : decode cX7_slackOfSanded 35 = .ok (.goto (-31), 3) := dk_167 255 225 (dk_at dksX7_slackOfSanded_1 12 rfl rfl)
theorem dX7_slackOfSanded_38 : decode cX7_slackOfSanded 38 = .ok (.iconst 0, 1) := dk_3 (dk_at dksX7_slackOfSanded_1 15 rfl rfl)
theorem dX7_slackOfSanded_39 : decode cX7_slackOfSanded 39 = .ok (.iload_n 2, 1) := dk_28 (dk_at dksX7_slackOfSanded_1 16 rfl rfl)
theorem dX7_slackOfSanded_40 : decode cX7_slackOfSanded 40 = .ok (.aload_n 0, 1) := dk_42 (dk_at dksX7_slackOfSanded_1 17 rfl rfl)
theorem dX7_slackOfSanded_41 : decode cX7_slackOfSanded 41 = .ok (.getfield 7, 3) := dk_180 0 7 (dk_at dksX7_slackOfSanded_1 18 rfl rfl)
theorem dX7_slackOfSanded_44 : decode cX7_slackOfSanded 44 = .ok (.bipush 72, 2) := dk_16 72 (dk_at dksX7_slackOfSanded_1 21 rfl rfl)
theorem dX7_slackOfSanded_46 : decode cX7_slackOfSanded 46 = .ok (.iload_n 1, 1) := dk_27 (dk_at dksX7_slackOfSanded_1 23 rfl rfl)
theorem dX7_slackOfSanded_47 : decode cX7_slackOfSanded 47 = .ok (.iadd, 1) := dk_96 (dk_at dksX7_slackOfSanded_2 0 rfl rfl)
theorem dX7_slackOfSanded_48 : decode cX7_slackOfSanded 48 = .ok (.iaload, 1) := dk_46 (dk_at dksX7_slackOfSanded_2 1 rfl rfl)
theorem dX7_slackOfSanded_49 : decode cX7_slackOfSanded 49 = .ok (.isub, 1) := dk_100 (dk_at dksX7_slackOfSanded_2 2 rfl rfl)
theorem dX7_slackOfSanded_50 : decode cX7_slackOfSanded 50 = .ok (.aload_n 0, 1) := dk_42 (dk_at dksX7_slackOfSanded_2 3 rfl rfl)
theorem dX7_slackOfSanded_51 : decode cX7_slackOfSanded 51 = .ok (.getfield 7, 3) := dk_180 0 7 (dk_at dksX7_slackOfSanded_2 4 rfl rfl)
theorem dX7_slackOfSanded_54 : decode cX7_slackOfSanded 54 = .ok (.bipush 72, 2) := dk_16 72 (dk_at dksX7_slackOfSanded_2 7 rfl rfl)
theorem dX7_slackOfSanded_56 : decode cX7_slackOfSanded 56 = .ok (.aload_n 0, 1) := dk_42 (dk_at dksX7_slackOfSanded_2 9 rfl rfl)
theorem dX7_slackOfSanded_57 : decode cX7_slackOfSanded 57 = .ok (.getfield 379, 3) := dk_180 1 123 (dk_at dksX7_slackOfSanded_2 10 rfl rfl)
theorem dX7_slackOfSanded_60 : decode cX7_slackOfSanded 60 = .ok (.iadd, 1) := dk_96 (dk_at dksX7_slackOfSanded_2 13 rfl rfl)
theorem dX7_slackOfSanded_61 : decode cX7_slackOfSanded 61 = .ok (.iaload, 1) := dk_46 (dk_at dksX7_slackOfSanded_2 14 rfl rfl)
theorem dX7_slackOfSanded_62 : decode cX7_slackOfSanded 62 = .ok (.isub, 1) := dk_100 (dk_at dksX7_slackOfSanded_2 15 rfl rfl)
theorem dX7_slackOfSanded_63 : decode cX7_slackOfSanded 63 = .ok (.invokestatic 242, 3) := dk_184 0 242 (dk_at dksX7_slackOfSanded_2 16 rfl rfl)
theorem dX7_slackOfSanded_66 : decode cX7_slackOfSanded 66 = .ok (.ireturn, 1) := dk_172 (dk_at dksX7_slackOfSanded_2 19 rfl rfl)
abbrev cX7_steaming : ByteArray := prog_21_method_97_code
def yX7_steaming : MethodName := ⟨RX7, "steaming", "(IIII)I"⟩
def dkwX7_steaming_7 : List UInt8 := [16, 20, 108, 167, 0, 8, 21, 5, 16, 20, 112, 172]
abbrev dktX7_steaming_7 : List UInt8 := dkwX7_steaming_7 ++ []
def dkwX7_steaming_6 : List UInt8 := [16, 254, 167, 0, 32, 21, 4, 154, 0, 8, 21, 6, 167, 0, 22, 21, 4, 4, 160, 0, 11, 21, 5]
abbrev dktX7_steaming_6 : List UInt8 := dkwX7_steaming_6 ++ dktX7_steaming_7
def dkwX7_steaming_5 : List UInt8 := [16, 10, 96, 54, 5, 132, 8, 1, 167, 255, 193, 132, 7, 1, 167, 255, 176, 21, 5, 2, 160, 0, 8]
abbrev dktX7_steaming_5 : List UInt8 := dkwX7_steaming_5 ++ dktX7_steaming_6
def dkwX7_steaming_4 : List UInt8 := [164, 0, 6, 167, 0, 26, 21, 7, 21, 8, 184, 0, 239, 96, 54, 6, 16, 20, 21, 7, 104, 21, 8, 96]
abbrev dktX7_steaming_4 : List UInt8 := dkwX7_steaming_4 ++ dktX7_steaming_5
def dkwX7_steaming_3 : List UInt8 := [21, 7, 21, 8, 184, 0, 239, 96, 21, 6, 162, 0, 43, 42, 27, 28, 21, 7, 21, 8, 182, 1, 139, 29]
abbrev dktX7_steaming_3 : List UInt8 := dkwX7_steaming_3 ++ dktX7_steaming_4
def dkwX7_steaming_2 : List UInt8 := [54, 6, 3, 54, 7, 21, 7, 16, 8, 162, 0, 79, 16, 247, 54, 8, 21, 8, 16, 9, 163, 0, 62]
abbrev dktX7_steaming_2 : List UInt8 := dkwX7_steaming_2 ++ dktX7_steaming_3
def dkwX7_steaming_1 : List UInt8 := [184, 0, 111, 153, 0, 13, 21, 4, 3, 5, 184, 0, 111, 154, 0, 5, 2, 172, 2, 54, 5, 18, 245]
abbrev dktX7_steaming_1 : List UInt8 := dkwX7_steaming_1 ++ dktX7_steaming_2
def dkwX7_steaming_0 : List UInt8 := [27, 184, 0, 97, 153, 0, 35, 28, 184, 0, 97, 153, 0, 28, 27, 28, 159, 0, 23, 29, 3, 16, 99]
abbrev dktX7_steaming_0 : List UInt8 := dkwX7_steaming_0 ++ dktX7_steaming_1
theorem dksX7_steaming_0 : cX7_steaming.data.toList.drop 0 = dktX7_steaming_0 := by decide +kernel
theorem dksX7_steaming_1 : cX7_steaming.data.toList.drop 23 = dktX7_steaming_1 := dk_seg dksX7_steaming_0 23 rfl rfl
theorem dksX7_steaming_2 : cX7_steaming.data.toList.drop 46 = dktX7_steaming_2 := dk_seg dksX7_steaming_1 23 rfl rfl
theorem dksX7_steaming_3 : cX7_steaming.data.toList.drop 69 = dktX7_steaming_3 := dk_seg dksX7_steaming_2 23 rfl rfl
theorem dksX7_steaming_4 : cX7_steaming.data.toList.drop 93 = dktX7_steaming_4 := dk_seg dksX7_steaming_3 24 rfl rfl
theorem dksX7_steaming_5 : cX7_steaming.data.toList.drop 117 = dktX7_steaming_5 := dk_seg dksX7_steaming_4 24 rfl rfl
theorem dksX7_steaming_6 : cX7_steaming.data.toList.drop 140 = dktX7_steaming_6 := dk_seg dksX7_steaming_5 23 rfl rfl
theorem dksX7_steaming_7 : cX7_steaming.data.toList.drop 163 = dktX7_steaming_7 := dk_seg dksX7_steaming_6 23 rfl rfl
theorem dX7_steaming_0 : decode cX7_steaming 0 = .ok (.iload_n 1, 1) := dk_27 (dk_at dksX7_steaming_0 0 rfl rfl)
theorem dX7_steaming_1 : decode cX7_steaming 1 = .ok (.invokestatic 97, 3) := dk_184 0 97 (dk_at dksX7_steaming_0 1 rfl rfl)
theorem dX7_steaming_4 : decode cX7_steaming 4 = .ok (.ifCond .eq 35, 3) := dk_153 0 35 (dk_at dksX7_steaming_0 4 rfl rfl)
theorem dX7_steaming_7 : decode cX7_steaming 7 = .ok (.iload_n 2, 1) := dk_28 (dk_at dksX7_steaming_0 7 rfl rfl)
theorem dX7_steaming_8 : decode cX7_steaming 8 = .ok (.invokestatic 97, 3) := dk_184 0 97 (dk_at dksX7_steaming_0 8 rfl rfl)
theorem dX7_steaming_11 : decode cX7_steaming 11 = .ok (.ifCond .eq 28, 3) := dk_153 0 28 (dk_at dksX7_steaming_0 11 rfl rfl)
theorem dX7_steaming_14 : decode cX7_steaming 14 = .ok (.iload_n 1, 1) := dk_27 (dk_at dksX7_steaming_0 14 rfl rfl)
theorem dX7_steaming_15 : decode cX7_steaming 15 = .ok (.iload_n 2, 1) := dk_28 (dk_at dksX7_steaming_0 15 rfl rfl)
theorem dX7_steaming_16 : decode cX7_steaming 16 = .ok (.if_icmp .eq 23, 3) := dk_159 0 23 (dk_at dksX7_steaming_0 16 rfl rfl)
theorem dX7_steaming_19 : decode cX7_steaming 19 = .ok (.iload_n 3, 1) := dk_29 (dk_at dksX7_steaming_0 19 rfl rfl)
theorem dX7_steaming_20 : decode cX7_steaming 20 = .ok (.iconst 0, 1) := dk_3 (dk_at dksX7_steaming_0 20 rfl rfl)
theorem dX7_steaming_21 : decode cX7_steaming 21 = .ok (.bipush 99, 2) := dk_16 99 (dk_at dksX7_steaming_0 21 rfl rfl)
theorem dX7_steaming_23 : decode cX7_steaming 23 = .ok (.invokestatic 111, 3) := dk_184 0 111 (dk_at dksX7_steaming_1 0 rfl rfl)
theorem dX7_steaming_26 : decode cX7_steaming 26 = .ok (.ifCond .eq 13, 3) := dk_153 0 13 (dk_at dksX7_steaming_1 3 rfl rfl)
theorem dX7_steaming_29 : decode cX7_steaming 29 = .ok (.iload 4, 2) := dk_21 4 (dk_at dksX7_steaming_1 6 rfl rfl)
theorem dX7_steaming_31 : decode cX7_steaming 31 = .ok (.iconst 0, 1) := dk_3 (dk_at dksX7_steaming_1 8 rfl rfl)
theorem dX7_steaming_32 : decode cX7_steaming 32 = .ok (.iconst 2, 1) := dk_5 (dk_at dksX7_steaming_1 9 rfl rfl)
theorem dX7_steaming_33 : decode cX7_steaming 33 = .ok (.invokestatic 111, 3) := dk_184 0 111 (dk_at dksX7_steaming_1 10 rfl rfl)
theorem dX7_steaming_36 : decode cX7_steaming 36 = .ok (.ifCond .ne 5, 3) := dk_154 0 5 (dk_at dksX7_steaming_1 13 rfl rfl)
theorem dX7_steaming_39 : decode cX7_steaming 39 = .ok (.iconst (-1), 1) := dk_2 (dk_at dksX7_steaming_1 16 rfl rfl)
theorem dX7_steaming_40 : decode cX7_steaming 40 = .ok (.ireturn, 1) := dk_172 (dk_at dksX7_steaming_1 17 rfl rfl)
theorem dX7_steaming_41 : decode cX7_steaming 41 = .ok (.iconst (-1), 1) := dk_2 (dk_at dksX7_steaming_1 18 rfl rfl)
theorem dX7_steaming_42 : decode cX7_steaming 42 = .ok (.istore 5, 2) := dk_54 5 (dk_at dksX7_steaming_1 19 rfl rfl)
theorem dX7_steaming_44 : decode cX7_steaming 44 = .ok (.ldc 245, 2) := dk_18 245 (dk_at dksX7_steaming_1 21 rfl rfl)
theorem dX7_steaming_46 : decode cX7_steaming 46 = .ok (.istore 6, 2) := dk_54 6 (dk_at dksX7_steaming_2 0 rfl rfl)
theorem dX7_steaming_48 : decode cX7_steaming 48 = .ok (.iconst 0, 1) := dk_3 (dk_at dksX7_steaming_2 2 rfl rfl)
theorem dX7_steaming_49 : decode cX7_steaming 49 = .ok (.istore 7, 2) := dk_54 7 (dk_at dksX7_steaming_2 3 rfl rfl)
theorem dX7_steaming_51 : decode cX7_steaming 51 = .ok (.iload 7, 2) := dk_21 7 (dk_at dksX7_steaming_2 5 rfl rfl)
theorem dX7_steaming_53 : decode cX7_steaming 53 = .ok (.bipush 8, 2) := dk_16 8 (dk_at dksX7_steaming_2 7 rfl rfl)
theorem dX7_steaming_55 : decode cX7_steaming 55 = .ok (.if_icmp .ge 79, 3) := dk_162 0 79 (dk_at dksX7_steaming_2 9 rfl rfl)
theorem dX7_steaming_58 : decode cX7_steaming 58 = .ok (.bipush (-9), 2) := dk_16 247 (dk_at dksX7_steaming_2 12 rfl rfl)
theorem dX7_steaming_60 : decode cX7_steaming 60 = .ok (.istore 8, 2) := dk_54 8 (dk_at dksX7_steaming_2 14 rfl rfl)
theorem dX7_steaming_62 : decode cX7_steaming 62 = .ok (.iload 8, 2) := dk_21 8 (dk_at dksX7_steaming_2 16 rfl rfl)
theorem dX7_steaming_64 : decode cX7_steaming 64 = .ok (.bipush 9, 2) := dk_16 9 (dk_at dksX7_steaming_2 18 rfl rfl)
theorem dX7_steaming_66 : decode cX7_steaming 66 = .ok (.if_icmp .gt 62, 3) := dk_163 0 62 (dk_at dksX7_steaming_2 20 rfl rfl)
theorem dX7_steaming_69 : decode cX7_steaming 69 = .ok (.iload 7, 2) := dk_21 7 (dk_at dksX7_steaming_3 0 rfl rfl)
theorem dX7_steaming_71 : decode cX7_steaming 71 = .ok (.iload 8, 2) := dk_21 8 (dk_at dksX7_steaming_3 2 rfl rfl)
theorem dX7_steaming_73 : decode cX7_steaming 73 = .ok (.invokestatic 239, 3) := dk_184 0 239 (dk_at dksX7_steaming_3 4 rfl rfl)
theorem dX7_steaming_76 : decode cX7_steaming 76 = .ok (.iadd, 1) := dk_96 (dk_at dksX7_steaming_3 7 rfl rfl)
theorem dX7_steaming_77 : decode cX7_steaming 77 = .ok (.iload 6, 2) := dk_21 6 (dk_at dksX7_steaming_3 8 rfl rfl)
theorem dX7_steaming_79 : decode cX7_steaming 79 = .ok (.if_icmp .ge 43, 3) := dk_162 0 43 (dk_at dksX7_steaming_3 10 rfl rfl)
theorem dX7_steaming_82 : decode cX7_steaming 82 = .ok (.aload_n 0, 1) := dk_42 (dk_at dksX7_steaming_3 13 rfl rfl)
theorem dX7_steaming_83 : decode cX7_steaming 83 = .ok (.iload_n 1, 1) := dk_27 (dk_at dksX7_steaming_3 14 rfl rfl)
theorem dX7_steaming_84 : decode cX7_steaming 84 = .ok (.iload_n 2, 1) := dk_28 (dk_at dksX7_steaming_3 15 rfl rfl)
theorem dX7_steaming_85 : decode cX7_steaming 85 = .ok (.iload 7, 2) := dk_21 7 (dk_at dksX7_steaming_3 16 rfl rfl)
theorem dX7_steaming_87 : decode cX7_steaming 87 = .ok (.iload 8, 2) := dk_21 8 (dk_at dksX7_steaming_3 18 rfl rfl)
theorem dX7_steaming_89 : decode cX7_steaming 89 = .ok (.invokevirtual 395, 3) := dk_182 1 139 (dk_at dksX7_steaming_3 20 rfl rfl)
theorem dX7_steaming_92 : decode cX7_steaming 92 = .ok (.iload_n 3, 1) := dk_29 (dk_at dksX7_steaming_3 23 rfl rfl)
theorem dX7_steaming_93 : decode cX7_steaming 93 = .ok (.if_icmp .le 6, 3) := dk_164 0 6 (dk_at dksX7_steaming_4 0 rfl rfl)
theorem dX7_steaming_96 : decode cX7_steaming 96 = .ok (.goto 26, 3) := dk_167 0 26 (dk_at dksX7_steaming_4 3 rfl rfl)
theorem dX7_steaming_99 : decode cX7_steaming 99 = .ok (.iload 7, 2) := dk_21 7 (dk_at dksX7_steaming_4 6 rfl rfl)
theorem dX7_steaming_101 : decode cX7_steaming 101 = .ok (.iload 8, 2) := dk_21 8 (dk_at dksX7_steaming_4 8 rfl rfl)
theorem dX7_steaming_103 : decode cX7_steaming 103 = .ok (.invokestatic 239, 3) := dk_184 0 239 (dk_at dksX7_steaming_4 10 rfl rfl)
theorem dX7_steaming_106 : decode cX7_steaming 106 = .ok (.iadd, 1) := dk_96 (dk_at dksX7_steaming_4 13 rfl rfl)
theorem dX7_steaming_107 : decode cX7_steaming 107 = .ok (.istore 6, 2) := dk_54 6 (dk_at dksX7_steaming_4 14 rfl rfl)
theorem dX7_steaming_109 : decode cX7_steaming 109 = .ok (.bipush 20, 2) := dk_16 20 (dk_at dksX7_steaming_4 16 rfl rfl)
theorem dX7_steaming_111 : decode cX7_steaming 111 = .ok (.iload 7, 2) := dk_21 7 (dk_at dksX7_steaming_4 18 rfl rfl)
theorem dX7_steaming_113 : decode cX7_steaming 113 = .ok (.imul, 1) := dk_104 (dk_at dksX7_steaming_4 20 rfl rfl)
theorem dX7_steaming_114 : decode cX7_steaming 114 = .ok (.iload 8, 2) := dk_21 8 (dk_at dksX7_steaming_4 21 rfl rfl)
theorem dX7_steaming_116 : decode cX7_steaming 116 = .ok (.iadd, 1) := dk_96 (dk_at dksX7_steaming_4 23 rfl rfl)
theorem dX7_steaming_117 : decode cX7_steaming 117 = .ok (.bipush 10, 2) := dk_16 10 (dk_at dksX7_steaming_5 0 rfl rfl)
theorem dX7_steaming_119 : decode cX7_steaming 119 = .ok (.iadd, 1) := dk_96 (dk_at dksX7_steaming_5 2 rfl rfl)
theorem dX7_steaming_120 : decode cX7_steaming 120 = .ok (.istore 5, 2) := dk_54 5 (dk_at dksX7_steaming_5 3 rfl rfl)
theorem dX7_steaming_122 : decode cX7_steaming 122 = .ok (.iinc 8 1, 3) := dk_132 8 1 (dk_at dksX7_steaming_5 5 rfl rfl)
theorem dX7_steaming_125 : decode cX7_steaming 125 = .ok (.goto (-63), 3) := dk_167 255 193 (dk_at dksX7_steaming_5 8 rfl rfl)
theorem dX7_steaming_128 : decode cX7_steaming 128 = .ok (.iinc 7 1, 3) := dk_132 7 1 (dk_at dksX7_steaming_5 11 rfl rfl)
theorem dX7_steaming_131 : decode cX7_steaming 131 = .ok (.goto (-80), 3) := dk_167 255 176 (dk_at dksX7_steaming_5 14 rfl rfl)
theorem dX7_steaming_134 : decode cX7_steaming 134 = .ok (.iload 5, 2) := dk_21 5 (dk_at dksX7_steaming_5 17 rfl rfl)
theorem dX7_steaming_136 : decode cX7_steaming 136 = .ok (.iconst (-1), 1) := dk_2 (dk_at dksX7_steaming_5 19 rfl rfl)
theorem dX7_steaming_137 : decode cX7_steaming 137 = .ok (.if_icmp .ne 8, 3) := dk_160 0 8 (dk_at dksX7_steaming_5 20 rfl rfl)
theorem dX7_steaming_140 : decode cX7_steaming 140 = .ok (.bipush (-2), 2) := dk_16 254 (dk_at dksX7_steaming_6 0 rfl rfl)
theorem dX7_steaming_142 : decode cX7_steaming 142 = .ok (.goto 32, 3) := dk_167 0 32 (dk_at dksX7_steaming_6 2 rfl rfl)
theorem dX7_steaming_145 : decode cX7_steaming 145 = .ok (.iload 4, 2) := dk_21 4 (dk_at dksX7_steaming_6 5 rfl rfl)
theorem dX7_steaming_147 : decode cX7_steaming 147 = .ok (.ifCond .ne 8, 3) := dk_154 0 8 (dk_at dksX7_steaming_6 7 rfl rfl)
theorem dX7_steaming_150 : decode cX7_steaming 150 = .ok (.iload 6, 2) := dk_21 6 (dk_at dksX7_steaming_6 10 rfl rfl)
theorem dX7_steaming_152 : decode cX7_steaming 152 = .ok (.goto 22, 3) := dk_167 0 22 (dk_at dksX7_steaming_6 12 rfl rfl)
theorem dX7_steaming_155 : decode cX7_steaming 155 = .ok (.iload 4, 2) := dk_21 4 (dk_at dksX7_steaming_6 15 rfl rfl)
theorem dX7_steaming_157 : decode cX7_steaming 157 = .ok (.iconst 1, 1) := dk_4 (dk_at dksX7_steaming_6 17 rfl rfl)
theorem dX7_steaming_158 : decode cX7_steaming 158 = .ok (.if_icmp .ne 11, 3) := dk_160 0 11 (dk_at dksX7_steaming_6 18 rfl rfl)
theorem dX7_steaming_161 : decode cX7_steaming 161 = .ok (.iload 5, 2) := dk_21 5 (dk_at dksX7_steaming_6 21 rfl rfl)
theorem dX7_steaming_163 : decode cX7_steaming 163 = .ok (.bipush 20, 2) := dk_16 20 (dk_at dksX7_steaming_7 0 rfl rfl)
theorem dX7_steaming_165 : decode cX7_steaming 165 = .ok (.idiv, 1) := dk_108 (dk_at dksX7_steaming_7 2 rfl rfl)
theorem dX7_steaming_166 : decode cX7_steaming 166 = .ok (.goto 8, 3) := dk_167 0 8 (dk_at dksX7_steaming_7 3 rfl rfl)
theorem dX7_steaming_169 : decode cX7_steaming 169 = .ok (.iload 5, 2) := dk_21 5 (dk_at dksX7_steaming_7 6 rfl rfl)
theorem dX7_steaming_171 : decode cX7_steaming 171 = .ok (.bipush 20, 2) := dk_16 20 (dk_at dksX7_steaming_7 8 rfl rfl)
theorem dX7_steaming_173 : decode cX7_steaming 173 = .ok (.irem, 1) := dk_112 (dk_at dksX7_steaming_7 10 rfl rfl)
theorem dX7_steaming_174 : decode cX7_steaming 174 = .ok (.ireturn, 1) := dk_172 (dk_at dksX7_steaming_7 11 rfl rfl)
abbrev cX7_slackSteamed : ByteArray := prog_21_method_96_code
def yX7_slackSteamed : MethodName := ⟨RX7, "slackSteamed", "(IIII)I"⟩
def dkwX7_slackSteamed_3 : List UInt8 := [42, 180, 0, 7, 16, 72, 27, 96, 46, 100, 42, 180, 0, 7, 16, 72, 28, 96, 46, 100, 184, 0, 242, 172]
abbrev dktX7_slackSteamed_3 : List UInt8 := dkwX7_slackSteamed_3 ++ []
def dkwX7_slackSteamed_2 : List UInt8 := [16, 7, 21, 6, 100, 182, 0, 236, 96, 184, 0, 239, 96, 54, 5, 132, 6, 1, 167, 255, 198, 3, 21, 5]
abbrev dktX7_slackSteamed_2 : List UInt8 := dkwX7_slackSteamed_2 ++ dktX7_slackSteamed_3
def dkwX7_slackSteamed_1 : List UInt8 := [182, 0, 236, 21, 4, 96, 54, 7, 21, 5, 16, 247, 16, 9, 21, 7, 184, 0, 249, 184, 0, 242, 42, 28]
abbrev dktX7_slackSteamed_1 : List UInt8 := dkwX7_slackSteamed_1 ++ dktX7_slackSteamed_2
def dkwX7_slackSteamed_0 : List UInt8 := [3, 54, 5, 3, 54, 6, 21, 6, 16, 8, 162, 0, 57, 42, 27, 21, 6, 29, 96, 16, 8, 112]
abbrev dktX7_slackSteamed_0 : List UInt8 := dkwX7_slackSteamed_0 ++ dktX7_slackSteamed_1
theorem dksX7_slackSteamed_0 : cX7_slackSteamed.data.toList.drop 0 = dktX7_slackSteamed_0 := by decide +kernel
theorem dksX7_slackSteamed_1 : cX7_slackSteamed.data.toList.drop 22 = dktX7_slackSteamed_1 := dk_seg dksX7_slackSteamed_0 22 rfl rfl
theorem dksX7_slackSteamed_2 : cX7_slackSteamed.data.toList.drop 46 = dktX7_slackSteamed_2 := dk_seg dksX7_slackSteamed_1 24 rfl rfl
theorem dksX7_slackSteamed_3 : cX7_slackSteamed.data.toList.drop 70 = dktX7_slackSteamed_3 := dk_seg dksX7_slackSteamed_2 24 rfl rfl
theorem dX7_slackSteamed_0 : decode cX7_slackSteamed 0 = .ok (.iconst 0, 1) := dk_3 (dk_at dksX7_slackSteamed_0 0 rfl rfl)
theorem dX7_slackSteamed_1 : decode cX7_slackSteamed 1 = .ok (.istore 5, 2) := dk_54 5 (dk_at dksX7_slackSteamed_0 1 rfl rfl)
theorem dX7_slackSteamed_3 : decode cX7_slackSteamed 3 = .ok (.iconst 0, 1) := dk_3 (dk_at dksX7_slackSteamed_0 3 rfl rfl)
theorem dX7_slackSteamed_4 : decode cX7_slackSteamed 4 = .ok (.istore 6, 2) := dk_54 6 (dk_at dksX7_slackSteamed_0 4 rfl rfl)
theorem dX7_slackSteamed_6 : decode cX7_slackSteamed 6 = .ok (.iload 6, 2) := dk_21 6 (dk_at dksX7_slackSteamed_0 6 rfl rfl)
theorem dX7_slackSteamed_8 : decode cX7_slackSteamed 8 = .ok (.bipush 8, 2) := dk_16 8 (dk_at dksX7_slackSteamed_0 8 rfl rfl)
theorem dX7_slackSteamed_10 : decode cX7_slackSteamed 10 = .ok (.if_icmp .ge 57, 3) := dk_162 0 57 (dk_at dksX7_slackSteamed_0 10 rfl rfl)
theorem dX7_slackSteamed_13 : decode cX7_slackSteamed 13 = .ok (.aload_n 0, 1) := dk_42 (dk_at dksX7_slackSteamed_0 13 rfl rfl)
theorem dX7_slackSteamed_14 : decode cX7_slackSteamed 14 = .ok (.iload_n 1, 1) := dk_27 (dk_at dksX7_slackSteamed_0 14 rfl rfl)
theorem dX7_slackSteamed_15 : decode cX7_slackSteamed 15 = .ok (.iload 6, 2) := dk_21 6 (dk_at dksX7_slackSteamed_0 15 rfl rfl)
theorem dX7_slackSteamed_17 : decode cX7_slackSteamed 17 = .ok (.iload_n 3, 1) := dk_29 (dk_at dksX7_slackSteamed_0 17 rfl rfl)
theorem dX7_slackSteamed_18 : decode cX7_slackSteamed 18 = .ok (.iadd, 1) := dk_96 (dk_at dksX7_slackSteamed_0 18 rfl rfl)
theorem dX7_slackSteamed_19 : decode cX7_slackSteamed 19 = .ok (.bipush 8, 2) := dk_16 8 (dk_at dksX7_slackSteamed_0 19 rfl rfl)
theorem dX7_slackSteamed_21 : decode cX7_slackSteamed 21 = .ok (.irem, 1) := dk_112 (dk_at dksX7_slackSteamed_0 21 rfl rfl)
theorem dX7_slackSteamed_22 : decode cX7_slackSteamed 22 = .ok (.invokevirtual 236, 3) := dk_182 0 236 (dk_at dksX7_slackSteamed_1 0 rfl rfl)
theorem dX7_slackSteamed_25 : decode cX7_slackSteamed 25 = .ok (.iload 4, 2) := dk_21 4 (dk_at dksX7_slackSteamed_1 3 rfl rfl)
theorem dX7_slackSteamed_27 : decode cX7_slackSteamed 27 = .ok (.iadd, 1) := dk_96 (dk_at dksX7_slackSteamed_1 5 rfl rfl)
theorem dX7_slackSteamed_28 : decode cX7_slackSteamed 28 = .ok (.istore 7, 2) := dk_54 7 (dk_at dksX7_slackSteamed_1 6 rfl rfl)
theorem dX7_slackSteamed_30 : decode cX7_slackSteamed 30 = .ok (.iload 5, 2) := dk_21 5 (dk_at dksX7_slackSteamed_1 8 rfl rfl)
theorem dX7_slackSteamed_32 : decode cX7_slackSteamed 32 = .ok (.bipush (-9), 2) := dk_16 247 (dk_at dksX7_slackSteamed_1 10 rfl rfl)
theorem dX7_slackSteamed_34 : decode cX7_slackSteamed 34 = .ok (.bipush 9, 2) := dk_16 9 (dk_at dksX7_slackSteamed_1 12 rfl rfl)
theorem dX7_slackSteamed_36 : decode cX7_slackSteamed 36 = .ok (.iload 7, 2) := dk_21 7 (dk_at dksX7_slackSteamed_1 14 rfl rfl)
theorem dX7_slackSteamed_38 : decode cX7_slackSteamed 38 = .ok (.invokestatic 249, 3) := dk_184 0 249 (dk_at dksX7_slackSteamed_1 16 rfl rfl)
theorem dX7_slackSteamed_41 : decode cX7_slackSteamed 41 = .ok (.invokestatic 242, 3) := dk_184 0 242 (dk_at dksX7_slackSteamed_1 19 rfl rfl)
theorem dX7_slackSteamed_44 : decode cX7_slackSteamed 44 = .ok (.aload_n 0, 1) := dk_42 (dk_at dksX7_slackSteamed_1 22 rfl rfl)
theorem dX7_slackSteamed_45 : decode cX7_slackSteamed 45 = .ok (.iload_n 2, 1) := dk_28 (dk_at dksX7_slackSteamed_1 23 rfl rfl)
theorem dX7_slackSteamed_46 : decode cX7_slackSteamed 46 = .ok (.bipush 7, 2) := dk_16 7 (dk_at dksX7_slackSteamed_2 0 rfl rfl)
theorem dX7_slackSteamed_48 : decode cX7_slackSteamed 48 = .ok (.iload 6, 2) := dk_21 6 (dk_at dksX7_slackSteamed_2 2 rfl rfl)
theorem dX7_slackSteamed_50 : decode cX7_slackSteamed 50 = .ok (.isub, 1) := dk_100 (dk_at dksX7_slackSteamed_2 4 rfl rfl)
theorem dX7_slackSteamed_51 : decode cX7_slackSteamed 51 = .ok (.invokevirtual 236, 3) := dk_182 0 236 (dk_at dksX7_slackSteamed_2 5 rfl rfl)
theorem dX7_slackSteamed_54 : decode cX7_slackSteamed 54 = .ok (.iadd, 1) := dk_96 (dk_at dksX7_slackSteamed_2 8 rfl rfl)
theorem dX7_slackSteamed_55 : decode cX7_slackSteamed 55 = .ok (.invokestatic 239, 3) := dk_184 0 239 (dk_at dksX7_slackSteamed_2 9 rfl rfl)
theorem dX7_slackSteamed_58 : decode cX7_slackSteamed 58 = .ok (.iadd, 1) := dk_96 (dk_at dksX7_slackSteamed_2 12 rfl rfl)
theorem dX7_slackSteamed_59 : decode cX7_slackSteamed 59 = .ok (.istore 5, 2) := dk_54 5 (dk_at dksX7_slackSteamed_2 13 rfl rfl)
theorem dX7_slackSteamed_61 : decode cX7_slackSteamed 61 = .ok (.iinc 6 1, 3) := dk_132 6 1 (dk_at dksX7_slackSteamed_2 15 rfl rfl)
theorem dX7_slackSteamed_64 : decode cX7_slackSteamed 64 = .ok (.goto (-58), 3) := dk_167 255 198 (dk_at dksX7_slackSteamed_2 18 rfl rfl)
theorem dX7_slackSteamed_67 : decode cX7_slackSteamed 67 = .ok (.iconst 0, 1) := dk_3 (dk_at dksX7_slackSteamed_2 21 rfl rfl)
theorem dX7_slackSteamed_68 : decode cX7_slackSteamed 68 = .ok (.iload 5, 2) := dk_21 5 (dk_at dksX7_slackSteamed_2 22 rfl rfl)
theorem dX7_slackSteamed_70 : decode cX7_slackSteamed 70 = .ok (.aload_n 0, 1) := dk_42 (dk_at dksX7_slackSteamed_3 0 rfl rfl)
theorem dX7_slackSteamed_71 : decode cX7_slackSteamed 71 = .ok (.getfield 7, 3) := dk_180 0 7 (dk_at dksX7_slackSteamed_3 1 rfl rfl)
theorem dX7_slackSteamed_74 : decode cX7_slackSteamed 74 = .ok (.bipush 72, 2) := dk_16 72 (dk_at dksX7_slackSteamed_3 4 rfl rfl)
theorem dX7_slackSteamed_76 : decode cX7_slackSteamed 76 = .ok (.iload_n 1, 1) := dk_27 (dk_at dksX7_slackSteamed_3 6 rfl rfl)
theorem dX7_slackSteamed_77 : decode cX7_slackSteamed 77 = .ok (.iadd, 1) := dk_96 (dk_at dksX7_slackSteamed_3 7 rfl rfl)
theorem dX7_slackSteamed_78 : decode cX7_slackSteamed 78 = .ok (.iaload, 1) := dk_46 (dk_at dksX7_slackSteamed_3 8 rfl rfl)
theorem dX7_slackSteamed_79 : decode cX7_slackSteamed 79 = .ok (.isub, 1) := dk_100 (dk_at dksX7_slackSteamed_3 9 rfl rfl)
theorem dX7_slackSteamed_80 : decode cX7_slackSteamed 80 = .ok (.aload_n 0, 1) := dk_42 (dk_at dksX7_slackSteamed_3 10 rfl rfl)
theorem dX7_slackSteamed_81 : decode cX7_slackSteamed 81 = .ok (.getfield 7, 3) := dk_180 0 7 (dk_at dksX7_slackSteamed_3 11 rfl rfl)
theorem dX7_slackSteamed_84 : decode cX7_slackSteamed 84 = .ok (.bipush 72, 2) := dk_16 72 (dk_at dksX7_slackSteamed_3 14 rfl rfl)
theorem dX7_slackSteamed_86 : decode cX7_slackSteamed 86 = .ok (.iload_n 2, 1) := dk_28 (dk_at dksX7_slackSteamed_3 16 rfl rfl)
theorem dX7_slackSteamed_87 : decode cX7_slackSteamed 87 = .ok (.iadd, 1) := dk_96 (dk_at dksX7_slackSteamed_3 17 rfl rfl)
theorem dX7_slackSteamed_88 : decode cX7_slackSteamed 88 = .ok (.iaload, 1) := dk_46 (dk_at dksX7_slackSteamed_3 18 rfl rfl)
theorem dX7_slackSteamed_89 : decode cX7_slackSteamed 89 = .ok (.isub, 1) := dk_100 (dk_at dksX7_slackSteamed_3 19 rfl rfl)
theorem dX7_slackSteamed_90 : decode cX7_slackSteamed 90 = .ok (.invokestatic 242, 3) := dk_184 0 242 (dk_at dksX7_slackSteamed_3 20 rfl rfl)
theorem dX7_slackSteamed_93 : decode cX7_slackSteamed 93 = .ok (.ireturn, 1) := dk_172 (dk_at dksX7_slackSteamed_3 23 rfl rfl)
abbrev cX7_worn : ByteArray := prog_21_method_98_code
def yX7_worn : MethodName := ⟨RX7, "worn", "(II)I"⟩
def dkwX7_worn_6 : List UInt8 := [180, 0, 13, 42, 180, 0, 7, 184, 1, 61, 21, 7, 153, 0, 8, 21, 6, 167, 0, 5, 16, 254, 172]
abbrev dktX7_worn_6 : List UInt8 := dkwX7_worn_6 ++ []
def dkwX7_worn_5 : List UInt8 := [21, 5, 182, 1, 39, 21, 6, 4, 96, 54, 6, 167, 255, 218, 42, 29, 21, 4, 182, 1, 30, 54, 7, 42]
abbrev dktX7_worn_5 : List UInt8 := dkwX7_worn_5 ++ dktX7_worn_6
def dkwX7_worn_4 : List UInt8 := [162, 0, 37, 42, 29, 21, 4, 182, 1, 30, 154, 0, 27, 42, 29, 21, 5, 182, 1, 39, 42, 21, 4]
abbrev dktX7_worn_4 : List UInt8 := dkwX7_worn_4 ++ dktX7_worn_5
def dkwX7_worn_3 : List UInt8 := [182, 1, 36, 54, 5, 42, 180, 0, 7, 42, 180, 0, 13, 184, 1, 61, 3, 54, 6, 21, 6, 16, 100]
abbrev dktX7_worn_3 : List UInt8 := dkwX7_worn_3 ++ dktX7_worn_4
def dkwX7_worn_2 : List UInt8 := [27, 167, 0, 4, 28, 62, 29, 27, 160, 0, 7, 28, 167, 0, 4, 27, 54, 4, 42, 29, 21, 4]
abbrev dktX7_worn_2 : List UInt8 := dkwX7_worn_2 ++ dktX7_worn_3
def dkwX7_worn_1 : List UInt8 := [42, 180, 0, 7, 3, 28, 96, 46, 160, 0, 5, 2, 172, 42, 180, 0, 7, 3, 27, 96, 46, 154, 0, 7]
abbrev dktX7_worn_1 : List UInt8 := dkwX7_worn_1 ++ dktX7_worn_2
def dkwX7_worn_0 : List UInt8 := [42, 27, 182, 0, 108, 153, 0, 30, 42, 28, 182, 0, 108, 153, 0, 22, 42, 180, 0, 7, 3, 27, 96, 46]
abbrev dktX7_worn_0 : List UInt8 := dkwX7_worn_0 ++ dktX7_worn_1
theorem dksX7_worn_0 : cX7_worn.data.toList.drop 0 = dktX7_worn_0 := by decide +kernel
theorem dksX7_worn_1 : cX7_worn.data.toList.drop 24 = dktX7_worn_1 := dk_seg dksX7_worn_0 24 rfl rfl
theorem dksX7_worn_2 : cX7_worn.data.toList.drop 48 = dktX7_worn_2 := dk_seg dksX7_worn_1 24 rfl rfl
theorem dksX7_worn_3 : cX7_worn.data.toList.drop 70 = dktX7_worn_3 := dk_seg dksX7_worn_2 22 rfl rfl
theorem dksX7_worn_4 : cX7_worn.data.toList.drop 93 = dktX7_worn_4 := dk_seg dksX7_worn_3 23 rfl rfl
theorem dksX7_worn_5 : cX7_worn.data.toList.drop 116 = dktX7_worn_5 := dk_seg dksX7_worn_4 23 rfl rfl
theorem dksX7_worn_6 : cX7_worn.data.toList.drop 140 = dktX7_worn_6 := dk_seg dksX7_worn_5 24 rfl rfl
theorem dX7_worn_0 : decode cX7_worn 0 = .ok (.aload_n 0, 1) := dk_42 (dk_at dksX7_worn_0 0 rfl rfl)
theorem dX7_worn_1 : decode cX7_worn 1 = .ok (.iload_n 1, 1) := dk_27 (dk_at dksX7_worn_0 1 rfl rfl)
theorem dX7_worn_2 : decode cX7_worn 2 = .ok (.invokevirtual 108, 3) := dk_182 0 108 (dk_at dksX7_worn_0 2 rfl rfl)
theorem dX7_worn_5 : decode cX7_worn 5 = .ok (.ifCond .eq 30, 3) := dk_153 0 30 (dk_at dksX7_worn_0 5 rfl rfl)
theorem dX7_worn_8 : decode cX7_worn 8 = .ok (.aload_n 0, 1) := dk_42 (dk_at dksX7_worn_0 8 rfl rfl)
theorem dX7_worn_9 : decode cX7_worn 9 = .ok (.iload_n 2, 1) := dk_28 (dk_at dksX7_worn_0 9 rfl rfl)
theorem dX7_worn_10 : decode cX7_worn 10 = .ok (.invokevirtual 108, 3) := dk_182 0 108 (dk_at dksX7_worn_0 10 rfl rfl)
theorem dX7_worn_13 : decode cX7_worn 13 = .ok (.ifCond .eq 22, 3) := dk_153 0 22 (dk_at dksX7_worn_0 13 rfl rfl)
theorem dX7_worn_16 : decode cX7_worn 16 = .ok (.aload_n 0, 1) := dk_42 (dk_at dksX7_worn_0 16 rfl rfl)
theorem dX7_worn_17 : decode cX7_worn 17 = .ok (.getfield 7, 3) := dk_180 0 7 (dk_at dksX7_worn_0 17 rfl rfl)
theorem dX7_worn_20 : decode cX7_worn 20 = .ok (.iconst 0, 1) := dk_3 (dk_at dksX7_worn_0 20 rfl rfl)
theorem dX7_worn_21 : decode cX7_worn 21 = .ok (.iload_n 1, 1) := dk_27 (dk_at dksX7_worn_0 21 rfl rfl)
theorem dX7_worn_22 : decode cX7_worn 22 = .ok (.iadd, 1) := dk_96 (dk_at dksX7_worn_0 22 rfl rfl)
theorem dX7_worn_23 : decode cX7_worn 23 = .ok (.iaload, 1) := dk_46 (dk_at dksX7_worn_0 23 rfl rfl)
theorem dX7_worn_24 : decode cX7_worn 24 = .ok (.aload_n 0, 1) := dk_42 (dk_at dksX7_worn_1 0 rfl rfl)
theorem dX7_worn_25 : decode cX7_worn 25 = .ok (.getfield 7, 3) := dk_180 0 7 (dk_at dksX7_worn_1 1 rfl rfl)
theorem dX7_worn_28 : decode cX7_worn 28 = .ok (.iconst 0, 1) := dk_3 (dk_at dksX7_worn_1 4 rfl rfl)
theorem dX7_worn_29 : decode cX7_worn 29 = .ok (.iload_n 2, 1) := dk_28 (dk_at dksX7_worn_1 5 rfl rfl)
theorem dX7_worn_30 : decode cX7_worn 30 = .ok (.iadd, 1) := dk_96 (dk_at dksX7_worn_1 6 rfl rfl)
theorem dX7_worn_31 : decode cX7_worn 31 = .ok (.iaload, 1) := dk_46 (dk_at dksX7_worn_1 7 rfl rfl)
theorem dX7_worn_32 : decode cX7_worn 32 = .ok (.if_icmp .ne 5, 3) := dk_160 0 5 (dk_at dksX7_worn_1 8 rfl rfl)
theorem dX7_worn_35 : decode cX7_worn 35 = .ok (.iconst (-1), 1) := dk_2 (dk_at dksX7_worn_1 11 rfl rfl)
theorem dX7_worn_36 : decode cX7_worn 36 = .ok (.ireturn, 1) := dk_172 (dk_at dksX7_worn_1 12 rfl rfl)
theorem dX7_worn_37 : decode cX7_worn 37 = .ok (.aload_n 0, 1) := dk_42 (dk_at dksX7_worn_1 13 rfl rfl)
theorem dX7_worn_38 : decode cX7_worn 38 = .ok (.getfield 7, 3) := dk_180 0 7 (dk_at dksX7_worn_1 14 rfl rfl)
theorem dX7_worn_41 : decode cX7_worn 41 = .ok (.iconst 0, 1) := dk_3 (dk_at dksX7_worn_1 17 rfl rfl)
theorem dX7_worn_42 : decode cX7_worn 42 = .ok (.iload_n 1, 1) := dk_27 (dk_at dksX7_worn_1 18 rfl rfl)
theorem dX7_worn_43 : decode cX7_worn 43 = .ok (.iadd, 1) := dk_96 (dk_at dksX7_worn_1 19 rfl rfl)
theorem dX7_worn_44 : decode cX7_worn 44 = .ok (.iaload, 1) := dk_46 (dk_at dksX7_worn_1 20 rfl rfl)
theorem dX7_worn_45 : decode cX7_worn 45 = .ok (.ifCond .ne 7, 3) := dk_154 0 7 (dk_at dksX7_worn_1 21 rfl rfl)
theorem dX7_worn_48 : decode cX7_worn 48 = .ok (.iload_n 1, 1) := dk_27 (dk_at dksX7_worn_2 0 rfl rfl)
theorem dX7_worn_49 : decode cX7_worn 49 = .ok (.goto 4, 3) := dk_167 0 4 (dk_at dksX7_worn_2 1 rfl rfl)
theorem dX7_worn_52 : decode cX7_worn 52 = .ok (.iload_n 2, 1) := dk_28 (dk_at dksX7_worn_2 4 rfl rfl)
theorem dX7_worn_53 : decode cX7_worn 53 = .ok (.istore_n 3, 1) := dk_62 (dk_at dksX7_worn_2 5 rfl rfl)
theorem dX7_worn_54 : decode cX7_worn 54 = .ok (.iload_n 3, 1) := dk_29 (dk_at dksX7_worn_2 6 rfl rfl)
theorem dX7_worn_55 : decode cX7_worn 55 = .ok (.iload_n 1, 1) := dk_27 (dk_at dksX7_worn_2 7 rfl rfl)
theorem dX7_worn_56 : decode cX7_worn 56 = .ok (.if_icmp .ne 7, 3) := dk_160 0 7 (dk_at dksX7_worn_2 8 rfl rfl)
theorem dX7_worn_59 : decode cX7_worn 59 = .ok (.iload_n 2, 1) := dk_28 (dk_at dksX7_worn_2 11 rfl rfl)
theorem dX7_worn_60 : decode cX7_worn 60 = .ok (.goto 4, 3) := dk_167 0 4 (dk_at dksX7_worn_2 12 rfl rfl)
theorem dX7_worn_63 : decode cX7_worn 63 = .ok (.iload_n 1, 1) := dk_27 (dk_at dksX7_worn_2 15 rfl rfl)
theorem dX7_worn_64 : decode cX7_worn 64 = .ok (.istore 4, 2) := dk_54 4 (dk_at dksX7_worn_2 16 rfl rfl)
theorem dX7_worn_66 : decode cX7_worn 66 = .ok (.aload_n 0, 1) := dk_42 (dk_at dksX7_worn_2 18 rfl rfl)
theorem dX7_worn_67 : decode cX7_worn 67 = .ok (.iload_n 3, 1) := dk_29 (dk_at dksX7_worn_2 19 rfl rfl)
theorem dX7_worn_68 : decode cX7_worn 68 = .ok (.iload 4, 2) := dk_21 4 (dk_at dksX7_worn_2 20 rfl rfl)
theorem dX7_worn_70 : decode cX7_worn 70 = .ok (.invokevirtual 292, 3) := dk_182 1 36 (dk_at dksX7_worn_3 0 rfl rfl)
theorem dX7_worn_73 : decode cX7_worn 73 = .ok (.istore 5, 2) := dk_54 5 (dk_at dksX7_worn_3 3 rfl rfl)
theorem dX7_worn_75 : decode cX7_worn 75 = .ok (.aload_n 0, 1) := dk_42 (dk_at dksX7_worn_3 5 rfl rfl)
theorem dX7_worn_76 : decode cX7_worn 76 = .ok (.getfield 7, 3) := dk_180 0 7 (dk_at dksX7_worn_3 6 rfl rfl)
theorem dX7_worn_79 : decode cX7_worn 79 = .ok (.aload_n 0, 1) := dk_42 (dk_at dksX7_worn_3 9 rfl rfl)
theorem dX7_worn_80 : decode cX7_worn 80 = .ok (.getfield 13, 3) := dk_180 0 13 (dk_at dksX7_worn_3 10 rfl rfl)
theorem dX7_worn_83 : decode cX7_worn 83 = .ok (.invokestatic 317, 3) := dk_184 1 61 (dk_at dksX7_worn_3 13 rfl rfl)
theorem dX7_worn_86 : decode cX7_worn 86 = .ok (.iconst 0, 1) := dk_3 (dk_at dksX7_worn_3 16 rfl rfl)
theorem dX7_worn_87 : decode cX7_worn 87 = .ok (.istore 6, 2) := dk_54 6 (dk_at dksX7_worn_3 17 rfl rfl)
theorem dX7_worn_89 : decode cX7_worn 89 = .ok (.iload 6, 2) := dk_21 6 (dk_at dksX7_worn_3 19 rfl rfl)
theorem dX7_worn_91 : decode cX7_worn 91 = .ok (.bipush 100, 2) := dk_16 100 (dk_at dksX7_worn_3 21 rfl rfl)
theorem dX7_worn_93 : decode cX7_worn 93 = .ok (.if_icmp .ge 37, 3) := dk_162 0 37 (dk_at dksX7_worn_4 0 rfl rfl)
theorem dX7_worn_96 : decode cX7_worn 96 = .ok (.aload_n 0, 1) := dk_42 (dk_at dksX7_worn_4 3 rfl rfl)
theorem dX7_worn_97 : decode cX7_worn 97 = .ok (.iload_n 3, 1) := dk_29 (dk_at dksX7_worn_4 4 rfl rfl)
theorem dX7_worn_98 : decode cX7_worn 98 = .ok (.iload 4, 2) := dk_21 4 (dk_at dksX7_worn_4 5 rfl rfl)
theorem dX7_worn_100 : decode cX7_worn 100 = .ok (.invokevirtual 286, 3) := dk_182 1 30 (dk_at dksX7_worn_4 7 rfl rfl)
theorem dX7_worn_103 : decode cX7_worn 103 = .ok (.ifCond .ne 27, 3) := dk_154 0 27 (dk_at dksX7_worn_4 10 rfl rfl)
theorem dX7_worn_106 : decode cX7_worn 106 = .ok (.aload_n 0, 1) := dk_42 (dk_at dksX7_worn_4 13 rfl rfl)
theorem dX7_worn_107 : decode cX7_worn 107 = .ok (.iload_n 3, 1) := dk_29 (dk_at dksX7_worn_4 14 rfl rfl)
theorem dX7_worn_108 : decode cX7_worn 108 = .ok (.iload 5, 2) := dk_21 5 (dk_at dksX7_worn_4 15 rfl rfl)
theorem dX7_worn_110 : decode cX7_worn 110 = .ok (.invokevirtual 295, 3) := dk_182 1 39 (dk_at dksX7_worn_4 17 rfl rfl)
theorem dX7_worn_113 : decode cX7_worn 113 = .ok (.aload_n 0, 1) := dk_42 (dk_at dksX7_worn_4 20 rfl rfl)
theorem dX7_worn_114 : decode cX7_worn 114 = .ok (.iload 4, 2) := dk_21 4 (dk_at dksX7_worn_4 21 rfl rfl)
theorem dX7_worn_116 : decode cX7_worn 116 = .ok (.iload 5, 2) := dk_21 5 (dk_at dksX7_worn_5 0 rfl rfl)
theorem dX7_worn_118 : decode cX7_worn 118 = .ok (.invokevirtual 295, 3) := dk_182 1 39 (dk_at dksX7_worn_5 2 rfl rfl)
theorem dX7_worn_121 : decode cX7_worn 121 = .ok (.iload 6, 2) := dk_21 6 (dk_at dksX7_worn_5 5 rfl rfl)
theorem dX7_worn_123 : decode cX7_worn 123 = .ok (.iconst 1, 1) := dk_4 (dk_at dksX7_worn_5 7 rfl rfl)
theorem dX7_worn_124 : decode cX7_worn 124 = .ok (.iadd, 1) := dk_96 (dk_at dksX7_worn_5 8 rfl rfl)
theorem dX7_worn_125 : decode cX7_worn 125 = .ok (.istore 6, 2) := dk_54 6 (dk_at dksX7_worn_5 9 rfl rfl)
theorem dX7_worn_127 : decode cX7_worn 127 = .ok (.goto (-38), 3) := dk_167 255 218 (dk_at dksX7_worn_5 11 rfl rfl)
theorem dX7_worn_130 : decode cX7_worn 130 = .ok (.aload_n 0, 1) := dk_42 (dk_at dksX7_worn_5 14 rfl rfl)
theorem dX7_worn_131 : decode cX7_worn 131 = .ok (.iload_n 3, 1) := dk_29 (dk_at dksX7_worn_5 15 rfl rfl)
theorem dX7_worn_132 : decode cX7_worn 132 = .ok (.iload 4, 2) := dk_21 4 (dk_at dksX7_worn_5 16 rfl rfl)
theorem dX7_worn_134 : decode cX7_worn 134 = .ok (.invokevirtual 286, 3) := dk_182 1 30 (dk_at dksX7_worn_5 18 rfl rfl)
theorem dX7_worn_137 : decode cX7_worn 137 = .ok (.istore 7, 2) := dk_54 7 (dk_at dksX7_worn_5 21 rfl rfl)
theorem dX7_worn_139 : decode cX7_worn 139 = .ok (.aload_n 0, 1) := dk_42 (dk_at dksX7_worn_5 23 rfl rfl)
theorem dX7_worn_140 : decode cX7_worn 140 = .ok (.getfield 13, 3) := dk_180 0 13 (dk_at dksX7_worn_6 0 rfl rfl)
theorem dX7_worn_143 : decode cX7_worn 143 = .ok (.aload_n 0, 1) := dk_42 (dk_at dksX7_worn_6 3 rfl rfl)
theorem dX7_worn_144 : decode cX7_worn 144 = .ok (.getfield 7, 3) := dk_180 0 7 (dk_at dksX7_worn_6 4 rfl rfl)
theorem dX7_worn_147 : decode cX7_worn 147 = .ok (.invokestatic 317, 3) := dk_184 1 61 (dk_at dksX7_worn_6 7 rfl rfl)
theorem dX7_worn_150 : decode cX7_worn 150 = .ok (.iload 7, 2) := dk_21 7 (dk_at dksX7_worn_6 10 rfl rfl)
theorem dX7_worn_152 : decode cX7_worn 152 = .ok (.ifCond .eq 8, 3) := dk_153 0 8 (dk_at dksX7_worn_6 12 rfl rfl)
theorem dX7_worn_155 : decode cX7_worn 155 = .ok (.iload 6, 2) := dk_21 6 (dk_at dksX7_worn_6 15 rfl rfl)
theorem dX7_worn_157 : decode cX7_worn 157 = .ok (.goto 5, 3) := dk_167 0 5 (dk_at dksX7_worn_6 17 rfl rfl)
theorem dX7_worn_160 : decode cX7_worn 160 = .ok (.bipush (-2), 2) := dk_16 254 (dk_at dksX7_worn_6 20 rfl rfl)
theorem dX7_worn_162 : decode cX7_worn 162 = .ok (.ireturn, 1) := dk_172 (dk_at dksX7_worn_6 22 rfl rfl)
abbrev cX7_cutter : ByteArray := prog_21_method_101_code
def yX7_cutter : MethodName := ⟨RX7, "cutter", "(II)I"⟩
def dkwX7_cutter_9 : List UInt8 := [172, 132, 5, 1, 167, 255, 221, 16, 254, 172]
abbrev dktX7_cutter_9 : List UInt8 := dkwX7_cutter_9 ++ []
def dkwX7_cutter_8 : List UInt8 := [21, 4, 16, 254, 159, 0, 27, 42, 21, 4, 28, 16, 10, 100, 21, 5, 182, 1, 142, 153, 0, 6, 21, 5]
abbrev dktX7_cutter_8 : List UInt8 := dkwX7_cutter_8 ++ dktX7_cutter_9
def dkwX7_cutter_7 : List UInt8 := [162, 0, 14, 28, 154, 0, 7, 29, 167, 0, 5, 21, 4, 172, 3, 54, 5, 21, 5, 16, 12, 162, 0, 34]
abbrev dktX7_cutter_7 : List UInt8 := dkwX7_cutter_7 ++ dktX7_cutter_8
def dkwX7_cutter_6 : List UInt8 := [154, 0, 8, 21, 5, 167, 0, 5, 21, 4, 54, 4, 29, 4, 96, 62, 132, 5, 1, 167, 255, 216, 28, 5]
abbrev dktX7_cutter_6 : List UInt8 := dkwX7_cutter_6 ++ dktX7_cutter_7
def dkwX7_cutter_5 : List UInt8 := [3, 54, 5, 21, 5, 16, 112, 162, 0, 39, 42, 21, 5, 27, 182, 1, 145, 154, 0, 6, 167, 0, 20, 29]
abbrev dktX7_cutter_5 : List UInt8 := dkwX7_cutter_5 ++ dktX7_cutter_6
def dkwX7_cutter_4 : List UInt8 := [5, 29, 104, 4, 96, 51, 160, 0, 6, 16, 253, 172, 132, 3, 1, 167, 255, 194, 3, 62, 16, 254, 54, 4]
abbrev dktX7_cutter_4 : List UInt8 := dkwX7_cutter_4 ++ dktX7_cutter_5
def dkwX7_cutter_3 : List UInt8 := [5, 29, 104, 4, 96, 51, 184, 0, 97, 153, 0, 24, 42, 180, 0, 19, 5, 29, 104, 51, 42, 180, 0, 19]
abbrev dktX7_cutter_3 : List UInt8 := dkwX7_cutter_3 ++ dktX7_cutter_4
def dkwX7_cutter_2 : List UInt8 := [62, 29, 27, 162, 0, 63, 42, 180, 0, 19, 5, 29, 104, 51, 184, 0, 97, 153, 0, 40, 42, 180, 0, 19]
abbrev dktX7_cutter_2 : List UInt8 := dkwX7_cutter_2 ++ dktX7_cutter_3
def dkwX7_cutter_1 : List UInt8 := [184, 0, 111, 153, 0, 13, 5, 27, 104, 42, 180, 0, 126, 164, 0, 5, 2, 172, 42, 3, 181, 0, 126, 3]
abbrev dktX7_cutter_1 : List UInt8 := dkwX7_cutter_1 ++ dktX7_cutter_2
def dkwX7_cutter_0 : List UInt8 := [27, 4, 8, 184, 0, 111, 153, 0, 33, 28, 3, 4, 184, 0, 111, 154, 0, 14, 28, 16, 10, 16, 21]
abbrev dktX7_cutter_0 : List UInt8 := dkwX7_cutter_0 ++ dktX7_cutter_1
theorem dksX7_cutter_0 : cX7_cutter.data.toList.drop 0 = dktX7_cutter_0 := by decide +kernel
theorem dksX7_cutter_1 : cX7_cutter.data.toList.drop 23 = dktX7_cutter_1 := dk_seg dksX7_cutter_0 23 rfl rfl
theorem dksX7_cutter_2 : cX7_cutter.data.toList.drop 47 = dktX7_cutter_2 := dk_seg dksX7_cutter_1 24 rfl rfl
theorem dksX7_cutter_3 : cX7_cutter.data.toList.drop 71 = dktX7_cutter_3 := dk_seg dksX7_cutter_2 24 rfl rfl
theorem dksX7_cutter_4 : cX7_cutter.data.toList.drop 95 = dktX7_cutter_4 := dk_seg dksX7_cutter_3 24 rfl rfl
theorem dksX7_cutter_5 : cX7_cutter.data.toList.drop 119 = dktX7_cutter_5 := dk_seg dksX7_cutter_4 24 rfl rfl
theorem dksX7_cutter_6 : cX7_cutter.data.toList.drop 143 = dktX7_cutter_6 := dk_seg dksX7_cutter_5 24 rfl rfl
theorem dksX7_cutter_7 : cX7_cutter.data.toList.drop 167 = dktX7_cutter_7 := dk_seg dksX7_cutter_6 24 rfl rfl
theorem dksX7_cutter_8 : cX7_cutter.data.toList.drop 191 = dktX7_cutter_8 := dk_seg dksX7_cutter_7 24 rfl rfl
theorem dksX7_cutter_9 : cX7_cutter.data.toList.drop 215 = dktX7_cutter_9 := dk_seg dksX7_cutter_8 24 rfl rfl
theorem dX7_cutter_0 : decode cX7_cutter 0 = .ok (.iload_n 1, 1) := dk_27 (dk_at dksX7_cutter_0 0 rfl rfl)
theorem dX7_cutter_1 : decode cX7_cutter 1 = .ok (.iconst 1, 1) := dk_4 (dk_at dksX7_cutter_0 1 rfl rfl)
theorem dX7_cutter_2 : decode cX7_cutter 2 = .ok (.iconst 5, 1) := dk_8 (dk_at dksX7_cutter_0 2 rfl rfl)
theorem dX7_cutter_3 : decode cX7_cutter 3 = .ok (.invokestatic 111, 3) := dk_184 0 111 (dk_at dksX7_cutter_0 3 rfl rfl)
theorem dX7_cutter_6 : decode cX7_cutter 6 = .ok (.ifCond .eq 33, 3) := dk_153 0 33 (dk_at dksX7_cutter_0 6 rfl rfl)
theorem dX7_cutter_9 : decode cX7_cutter 9 = .ok (.iload_n 2, 1) := dk_28 (dk_at dksX7_cutter_0 9 rfl rfl)
theorem dX7_cutter_10 : decode cX7_cutter 10 = .ok (.iconst 0, 1) := dk_3 (dk_at dksX7_cutter_0 10 rfl rfl)
theorem dX7_cutter_11 : decode cX7_cutter 11 = .ok (.iconst 1, 1) := dk_4 (dk_at dksX7_cutter_0 11 rfl rfl)
theorem dX7_cutter_12 : decode cX7_cutter 12 = .ok (.invokestatic 111, 3) := dk_184 0 111 (dk_at dksX7_cutter_0 12 rfl rfl)
theorem dX7_cutter_15 : decode cX7_cutter 15 = .ok (.ifCond .ne 14, 3) := dk_154 0 14 (dk_at dksX7_cutter_0 15 rfl rfl)
theorem dX7_cutter_18 : decode cX7_cutter 18 = .ok (.iload_n 2, 1) := dk_28 (dk_at dksX7_cutter_0 18 rfl rfl)
theorem dX7_cutter_19 : decode cX7_cutter 19 = .ok (.bipush 10, 2) := dk_16 10 (dk_at dksX7_cutter_0 19 rfl rfl)
theorem dX7_cutter_21 : decode cX7_cutter 21 = .ok (.bipush 21, 2) := dk_16 21 (dk_at dksX7_cutter_0 21 rfl rfl)
theorem dX7_cutter_23 : decode cX7_cutter 23 = .ok (.invokestatic 111, 3) := dk_184 0 111 (dk_at dksX7_cutter_1 0 rfl rfl)
theorem dX7_cutter_26 : decode cX7_cutter 26 = .ok (.ifCond .eq 13, 3) := dk_153 0 13 (dk_at dksX7_cutter_1 3 rfl rfl)
theorem dX7_cutter_29 : decode cX7_cutter 29 = .ok (.iconst 2, 1) := dk_5 (dk_at dksX7_cutter_1 6 rfl rfl)
theorem dX7_cutter_30 : decode cX7_cutter 30 = .ok (.iload_n 1, 1) := dk_27 (dk_at dksX7_cutter_1 7 rfl rfl)
theorem dX7_cutter_31 : decode cX7_cutter 31 = .ok (.imul, 1) := dk_104 (dk_at dksX7_cutter_1 8 rfl rfl)
theorem dX7_cutter_32 : decode cX7_cutter 32 = .ok (.aload_n 0, 1) := dk_42 (dk_at dksX7_cutter_1 9 rfl rfl)
theorem dX7_cutter_33 : decode cX7_cutter 33 = .ok (.getfield 126, 3) := dk_180 0 126 (dk_at dksX7_cutter_1 10 rfl rfl)
theorem dX7_cutter_36 : decode cX7_cutter 36 = .ok (.if_icmp .le 5, 3) := dk_164 0 5 (dk_at dksX7_cutter_1 13 rfl rfl)
theorem dX7_cutter_39 : decode cX7_cutter 39 = .ok (.iconst (-1), 1) := dk_2 (dk_at dksX7_cutter_1 16 rfl rfl)
theorem dX7_cutter_40 : decode cX7_cutter 40 = .ok (.ireturn, 1) := dk_172 (dk_at dksX7_cutter_1 17 rfl rfl)
theorem dX7_cutter_41 : decode cX7_cutter 41 = .ok (.aload_n 0, 1) := dk_42 (dk_at dksX7_cutter_1 18 rfl rfl)
theorem dX7_cutter_42 : decode cX7_cutter 42 = .ok (.iconst 0, 1) := dk_3 (dk_at dksX7_cutter_1 19 rfl rfl)
theorem dX7_cutter_43 : decode cX7_cutter 43 = .ok (.putfield 126, 3) := dk_181 0 126 (dk_at dksX7_cutter_1 20 rfl rfl)
theorem dX7_cutter_46 : decode cX7_cutter 46 = .ok (.iconst 0, 1) := dk_3 (dk_at dksX7_cutter_1 23 rfl rfl)
theorem dX7_cutter_47 : decode cX7_cutter 47 = .ok (.istore_n 3, 1) := dk_62 (dk_at dksX7_cutter_2 0 rfl rfl)
theorem dX7_cutter_48 : decode cX7_cutter 48 = .ok (.iload_n 3, 1) := dk_29 (dk_at dksX7_cutter_2 1 rfl rfl)
theorem dX7_cutter_49 : decode cX7_cutter 49 = .ok (.iload_n 1, 1) := dk_27 (dk_at dksX7_cutter_2 2 rfl rfl)
theorem dX7_cutter_50 : decode cX7_cutter 50 = .ok (.if_icmp .ge 63, 3) := dk_162 0 63 (dk_at dksX7_cutter_2 3 rfl rfl)
theorem dX7_cutter_53 : decode cX7_cutter 53 = .ok (.aload_n 0, 1) := dk_42 (dk_at dksX7_cutter_2 6 rfl rfl)
theorem dX7_cutter_54 : decode cX7_cutter 54 = .ok (.getfield 19, 3) := dk_180 0 19 (dk_at dksX7_cutter_2 7 rfl rfl)
theorem dX7_cutter_57 : decode cX7_cutter 57 = .ok (.iconst 2, 1) := dk_5 (dk_at dksX7_cutter_2 10 rfl rfl)
theorem dX7_cutter_58 : decode cX7_cutter 58 = .ok (.iload_n 3, 1) := dk_29 (dk_at dksX7_cutter_2 11 rfl rfl)
theorem dX7_cutter_59 : decode cX7_cutter 59 = .ok (.imul, 1) := dk_104 (dk_at dksX7_cutter_2 12 rfl rfl)
theorem dX7_cutter_60 : decode cX7_cutter 60 = .ok (.baload, 1) := dk_51 (dk_at dksX7_cutter_2 13 rfl rfl)
theorem dX7_cutter_61 : decode cX7_cutter 61 = .ok (.invokestatic 97, 3) := dk_184 0 97 (dk_at dksX7_cutter_2 14 rfl rfl)
theorem dX7_cutter_64 : decode cX7_cutter 64 = .ok (.ifCond .eq 40, 3) := dk_153 0 40 (dk_at dksX7_cutter_2 17 rfl rfl)
theorem dX7_cutter_67 : decode cX7_cutter 67 = .ok (.aload_n 0, 1) := dk_42 (dk_at dksX7_cutter_2 20 rfl rfl)
theorem dX7_cutter_68 : decode cX7_cutter 68 = .ok (.getfield 19, 3) := dk_180 0 19 (dk_at dksX7_cutter_2 21 rfl rfl)
theorem dX7_cutter_71 : decode cX7_cutter 71 = .ok (.iconst 2, 1) := dk_5 (dk_at dksX7_cutter_3 0 rfl rfl)
theorem dX7_cutter_72 : decode cX7_cutter 72 = .ok (.iload_n 3, 1) := dk_29 (dk_at dksX7_cutter_3 1 rfl rfl)
theorem dX7_cutter_73 : decode cX7_cutter 73 = .ok (.imul, 1) := dk_104 (dk_at dksX7_cutter_3 2 rfl rfl)
theorem dX7_cutter_74 : decode cX7_cutter 74 = .ok (.iconst 1, 1) := dk_4 (dk_at dksX7_cutter_3 3 rfl rfl)
theorem dX7_cutter_75 : decode cX7_cutter 75 = .ok (.iadd, 1) := dk_96 (dk_at dksX7_cutter_3 4 rfl rfl)
theorem dX7_cutter_76 : decode cX7_cutter 76 = .ok (.baload, 1) := dk_51 (dk_at dksX7_cutter_3 5 rfl rfl)
theorem dX7_cutter_77 : decode cX7_cutter 77 = .ok (.invokestatic 97, 3) := dk_184 0 97 (dk_at dksX7_cutter_3 6 rfl rfl)
theorem dX7_cutter_80 : decode cX7_cutter 80 = .ok (.ifCond .eq 24, 3) := dk_153 0 24 (dk_at dksX7_cutter_3 9 rfl rfl)
theorem dX7_cutter_83 : decode cX7_cutter 83 = .ok (.aload_n 0, 1) := dk_42 (dk_at dksX7_cutter_3 12 rfl rfl)
theorem dX7_cutter_84 : decode cX7_cutter 84 = .ok (.getfield 19, 3) := dk_180 0 19 (dk_at dksX7_cutter_3 13 rfl rfl)
theorem dX7_cutter_87 : decode cX7_cutter 87 = .ok (.iconst 2, 1) := dk_5 (dk_at dksX7_cutter_3 16 rfl rfl)
theorem dX7_cutter_88 : decode cX7_cutter 88 = .ok (.iload_n 3, 1) := dk_29 (dk_at dksX7_cutter_3 17 rfl rfl)
theorem dX7_cutter_89 : decode cX7_cutter 89 = .ok (.imul, 1) := dk_104 (dk_at dksX7_cutter_3 18 rfl rfl)
theorem dX7_cutter_90 : decode cX7_cutter 90 = .ok (.baload, 1) := dk_51 (dk_at dksX7_cutter_3 19 rfl rfl)
theorem dX7_cutter_91 : decode cX7_cutter 91 = .ok (.aload_n 0, 1) := dk_42 (dk_at dksX7_cutter_3 20 rfl rfl)
theorem dX7_cutter_92 : decode cX7_cutter 92 = .ok (.getfield 19, 3) := dk_180 0 19 (dk_at dksX7_cutter_3 21 rfl rfl)
theorem dX7_cutter_95 : decode cX7_cutter 95 = .ok (.iconst 2, 1) := dk_5 (dk_at dksX7_cutter_4 0 rfl rfl)
theorem dX7_cutter_96 : decode cX7_cutter 96 = .ok (.iload_n 3, 1) := dk_29 (dk_at dksX7_cutter_4 1 rfl rfl)
theorem dX7_cutter_97 : decode cX7_cutter 97 = .ok (.imul, 1) := dk_104 (dk_at dksX7_cutter_4 2 rfl rfl)
theorem dX7_cutter_98 : decode cX7_cutter 98 = .ok (.iconst 1, 1) := dk_4 (dk_at dksX7_cutter_4 3 rfl rfl)
theorem dX7_cutter_99 : decode cX7_cutter 99 = .ok (.iadd, 1) := dk_96 (dk_at dksX7_cutter_4 4 rfl rfl)
theorem dX7_cutter_100 : decode cX7_cutter 100 = .ok (.baload, 1) := dk_51 (dk_at dksX7_cutter_4 5 rfl rfl)
theorem dX7_cutter_101 : decode cX7_cutter 101 = .ok (.if_icmp .ne 6, 3) := dk_160 0 6 (dk_at dksX7_cutter_4 6 rfl rfl)
theorem dX7_cutter_104 : decode cX7_cutter 104 = .ok (.bipush (-3), 2) := dk_16 253 (dk_at dksX7_cutter_4 9 rfl rfl)
theorem dX7_cutter_106 : decode cX7_cutter 106 = .ok (.ireturn, 1) := dk_172 (dk_at dksX7_cutter_4 11 rfl rfl)
theorem dX7_cutter_107 : decode cX7_cutter 107 = .ok (.iinc 3 1, 3) := dk_132 3 1 (dk_at dksX7_cutter_4 12 rfl rfl)
theorem dX7_cutter_110 : decode cX7_cutter 110 = .ok (.goto (-62), 3) := dk_167 255 194 (dk_at dksX7_cutter_4 15 rfl rfl)
theorem dX7_cutter_113 : decode cX7_cutter 113 = .ok (.iconst 0, 1) := dk_3 (dk_at dksX7_cutter_4 18 rfl rfl)
theorem dX7_cutter_114 : decode cX7_cutter 114 = .ok (.istore_n 3, 1) := dk_62 (dk_at dksX7_cutter_4 19 rfl rfl)
theorem dX7_cutter_115 : decode cX7_cutter 115 = .ok (.bipush (-2), 2) := dk_16 254 (dk_at dksX7_cutter_4 20 rfl rfl)
theorem dX7_cutter_117 : decode cX7_cutter 117 = .ok (.istore 4, 2) := dk_54 4 (dk_at dksX7_cutter_4 22 rfl rfl)
theorem dX7_cutter_119 : decode cX7_cutter 119 = .ok (.iconst 0, 1) := dk_3 (dk_at dksX7_cutter_5 0 rfl rfl)
theorem dX7_cutter_120 : decode cX7_cutter 120 = .ok (.istore 5, 2) := dk_54 5 (dk_at dksX7_cutter_5 1 rfl rfl)
theorem dX7_cutter_122 : decode cX7_cutter 122 = .ok (.iload 5, 2) := dk_21 5 (dk_at dksX7_cutter_5 3 rfl rfl)
theorem dX7_cutter_124 : decode cX7_cutter 124 = .ok (.bipush 112, 2) := dk_16 112 (dk_at dksX7_cutter_5 5 rfl rfl)
theorem dX7_cutter_126 : decode cX7_cutter 126 = .ok (.if_icmp .ge 39, 3) := dk_162 0 39 (dk_at dksX7_cutter_5 7 rfl rfl)
theorem dX7_cutter_129 : decode cX7_cutter 129 = .ok (.aload_n 0, 1) := dk_42 (dk_at dksX7_cutter_5 10 rfl rfl)
theorem dX7_cutter_130 : decode cX7_cutter 130 = .ok (.iload 5, 2) := dk_21 5 (dk_at dksX7_cutter_5 11 rfl rfl)
theorem dX7_cutter_132 : decode cX7_cutter 132 = .ok (.iload_n 1, 1) := dk_27 (dk_at dksX7_cutter_5 13 rfl rfl)
theorem dX7_cutter_133 : decode cX7_cutter 133 = .ok (.invokevirtual 401, 3) := dk_182 1 145 (dk_at dksX7_cutter_5 14 rfl rfl)
theorem dX7_cutter_136 : decode cX7_cutter 136 = .ok (.ifCond .ne 6, 3) := dk_154 0 6 (dk_at dksX7_cutter_5 17 rfl rfl)
theorem dX7_cutter_139 : decode cX7_cutter 139 = .ok (.goto 20, 3) := dk_167 0 20 (dk_at dksX7_cutter_5 20 rfl rfl)
theorem dX7_cutter_142 : decode cX7_cutter 142 = .ok (.iload_n 3, 1) := dk_29 (dk_at dksX7_cutter_5 23 rfl rfl)
theorem dX7_cutter_143 : decode cX7_cutter 143 = .ok (.ifCond .ne 8, 3) := dk_154 0 8 (dk_at dksX7_cutter_6 0 rfl rfl)
theorem dX7_cutter_146 : decode cX7_cutter 146 = .ok (.iload 5, 2) := dk_21 5 (dk_at dksX7_cutter_6 3 rfl rfl)
theorem dX7_cutter_148 : decode cX7_cutter 148 = .ok (.goto 5, 3) := dk_167 0 5 (dk_at dksX7_cutter_6 5 rfl rfl)
theorem dX7_cutter_151 : decode cX7_cutter 151 = .ok (.iload 4, 2) := dk_21 4 (dk_at dksX7_cutter_6 8 rfl rfl)
theorem dX7_cutter_153 : decode cX7_cutter 153 = .ok (.istore 4, 2) := dk_54 4 (dk_at dksX7_cutter_6 10 rfl rfl)
theorem dX7_cutter_155 : decode cX7_cutter 155 = .ok (.iload_n 3, 1) := dk_29 (dk_at dksX7_cutter_6 12 rfl rfl)
theorem dX7_cutter_156 : decode cX7_cutter 156 = .ok (.iconst 1, 1) := dk_4 (dk_at dksX7_cutter_6 13 rfl rfl)
theorem dX7_cutter_157 : decode cX7_cutter 157 = .ok (.iadd, 1) := dk_96 (dk_at dksX7_cutter_6 14 rfl rfl)
theorem dX7_cutter_158 : decode cX7_cutter 158 = .ok (.istore_n 3, 1) := dk_62 (dk_at dksX7_cutter_6 15 rfl rfl)
theorem dX7_cutter_159 : decode cX7_cutter 159 = .ok (.iinc 5 1, 3) := dk_132 5 1 (dk_at dksX7_cutter_6 16 rfl rfl)
theorem dX7_cutter_162 : decode cX7_cutter 162 = .ok (.goto (-40), 3) := dk_167 255 216 (dk_at dksX7_cutter_6 19 rfl rfl)
theorem dX7_cutter_165 : decode cX7_cutter 165 = .ok (.iload_n 2, 1) := dk_28 (dk_at dksX7_cutter_6 22 rfl rfl)
theorem dX7_cutter_166 : decode cX7_cutter 166 = .ok (.iconst 2, 1) := dk_5 (dk_at dksX7_cutter_6 23 rfl rfl)
theorem dX7_cutter_167 : decode cX7_cutter 167 = .ok (.if_icmp .ge 14, 3) := dk_162 0 14 (dk_at dksX7_cutter_7 0 rfl rfl)
theorem dX7_cutter_170 : decode cX7_cutter 170 = .ok (.iload_n 2, 1) := dk_28 (dk_at dksX7_cutter_7 3 rfl rfl)
theorem dX7_cutter_171 : decode cX7_cutter 171 = .ok (.ifCond .ne 7, 3) := dk_154 0 7 (dk_at dksX7_cutter_7 4 rfl rfl)
theorem dX7_cutter_174 : decode cX7_cutter 174 = .ok (.iload_n 3, 1) := dk_29 (dk_at dksX7_cutter_7 7 rfl rfl)
theorem dX7_cutter_175 : decode cX7_cutter 175 = .ok (.goto 5, 3) := dk_167 0 5 (dk_at dksX7_cutter_7 8 rfl rfl)
theorem dX7_cutter_178 : decode cX7_cutter 178 = .ok (.iload 4, 2) := dk_21 4 (dk_at dksX7_cutter_7 11 rfl rfl)
theorem dX7_cutter_180 : decode cX7_cutter 180 = .ok (.ireturn, 1) := dk_172 (dk_at dksX7_cutter_7 13 rfl rfl)
theorem dX7_cutter_181 : decode cX7_cutter 181 = .ok (.iconst 0, 1) := dk_3 (dk_at dksX7_cutter_7 14 rfl rfl)
theorem dX7_cutter_182 : decode cX7_cutter 182 = .ok (.istore 5, 2) := dk_54 5 (dk_at dksX7_cutter_7 15 rfl rfl)
theorem dX7_cutter_184 : decode cX7_cutter 184 = .ok (.iload 5, 2) := dk_21 5 (dk_at dksX7_cutter_7 17 rfl rfl)
theorem dX7_cutter_186 : decode cX7_cutter 186 = .ok (.bipush 12, 2) := dk_16 12 (dk_at dksX7_cutter_7 19 rfl rfl)
theorem dX7_cutter_188 : decode cX7_cutter 188 = .ok (.if_icmp .ge 34, 3) := dk_162 0 34 (dk_at dksX7_cutter_7 21 rfl rfl)
theorem dX7_cutter_191 : decode cX7_cutter 191 = .ok (.iload 4, 2) := dk_21 4 (dk_at dksX7_cutter_8 0 rfl rfl)
theorem dX7_cutter_193 : decode cX7_cutter 193 = .ok (.bipush (-2), 2) := dk_16 254 (dk_at dksX7_cutter_8 2 rfl rfl)
theorem dX7_cutter_195 : decode cX7_cutter 195 = .ok (.if_icmp .eq 27, 3) := dk_159 0 27 (dk_at dksX7_cutter_8 4 rfl rfl)
theorem dX7_cutter_198 : decode cX7_cutter 198 = .ok (.aload_n 0, 1) := dk_42 (dk_at dksX7_cutter_8 7 rfl rfl)
theorem dX7_cutter_199 : decode cX7_cutter 199 = .ok (.iload 4, 2) := dk_21 4 (dk_at dksX7_cutter_8 8 rfl rfl)
theorem dX7_cutter_201 : decode cX7_cutter 201 = .ok (.iload_n 2, 1) := dk_28 (dk_at dksX7_cutter_8 10 rfl rfl)
theorem dX7_cutter_202 : decode cX7_cutter 202 = .ok (.bipush 10, 2) := dk_16 10 (dk_at dksX7_cutter_8 11 rfl rfl)
theorem dX7_cutter_204 : decode cX7_cutter 204 = .ok (.isub, 1) := dk_100 (dk_at dksX7_cutter_8 13 rfl rfl)
theorem dX7_cutter_205 : decode cX7_cutter 205 = .ok (.iload 5, 2) := dk_21 5 (dk_at dksX7_cutter_8 14 rfl rfl)
theorem dX7_cutter_207 : decode cX7_cutter 207 = .ok (.invokevirtual 398, 3) := dk_182 1 142 (dk_at dksX7_cutter_8 16 rfl rfl)
theorem dX7_cutter_210 : decode cX7_cutter 210 = .ok (.ifCond .eq 6, 3) := dk_153 0 6 (dk_at dksX7_cutter_8 19 rfl rfl)
theorem dX7_cutter_213 : decode cX7_cutter 213 = .ok (.iload 5, 2) := dk_21 5 (dk_at dksX7_cutter_8 22 rfl rfl)
theorem dX7_cutter_215 : decode cX7_cutter 215 = .ok (.ireturn, 1) := dk_172 (dk_at dksX7_cutter_9 0 rfl rfl)
theorem dX7_cutter_216 : decode cX7_cutter 216 = .ok (.iinc 5 1, 3) := dk_132 5 1 (dk_at dksX7_cutter_9 1 rfl rfl)
theorem dX7_cutter_219 : decode cX7_cutter 219 = .ok (.goto (-35), 3) := dk_167 255 221 (dk_at dksX7_cutter_9 4 rfl rfl)
theorem dX7_cutter_222 : decode cX7_cutter 222 = .ok (.bipush (-2), 2) := dk_16 254 (dk_at dksX7_cutter_9 7 rfl rfl)
theorem dX7_cutter_224 : decode cX7_cutter 224 = .ok (.ireturn, 1) := dk_172 (dk_at dksX7_cutter_9 9 rfl rfl)
abbrev cX7_makesAll : ByteArray := prog_21_method_100_code
def yX7_makesAll : MethodName := ⟨RX7, "makesAll", "(II)Z"⟩
def dkwX7_makesAll_1 : List UInt8 := [4, 96, 51, 182, 1, 142, 154, 0, 5, 3, 172, 132, 3, 1, 167, 255, 220, 4, 172]
abbrev dktX7_makesAll_1 : List UInt8 := dkwX7_makesAll_1 ++ []
def dkwX7_makesAll_0 : List UInt8 := [3, 62, 29, 28, 162, 0, 37, 42, 27, 42, 180, 0, 19, 5, 29, 104, 51, 42, 180, 0, 19, 5, 29, 104]
abbrev dktX7_makesAll_0 : List UInt8 := dkwX7_makesAll_0 ++ dktX7_makesAll_1
theorem dksX7_makesAll_0 : cX7_makesAll.data.toList.drop 0 = dktX7_makesAll_0 := by decide +kernel
theorem dksX7_makesAll_1 : cX7_makesAll.data.toList.drop 24 = dktX7_makesAll_1 := dk_seg dksX7_makesAll_0 24 rfl rfl
theorem dX7_makesAll_0 : decode cX7_makesAll 0 = .ok (.iconst 0, 1) := dk_3 (dk_at dksX7_makesAll_0 0 rfl rfl)
theorem dX7_makesAll_1 : decode cX7_makesAll 1 = .ok (.istore_n 3, 1) := dk_62 (dk_at dksX7_makesAll_0 1 rfl rfl)
theorem dX7_makesAll_2 : decode cX7_makesAll 2 = .ok (.iload_n 3, 1) := dk_29 (dk_at dksX7_makesAll_0 2 rfl rfl)
theorem dX7_makesAll_3 : decode cX7_makesAll 3 = .ok (.iload_n 2, 1) := dk_28 (dk_at dksX7_makesAll_0 3 rfl rfl)
theorem dX7_makesAll_4 : decode cX7_makesAll 4 = .ok (.if_icmp .ge 37, 3) := dk_162 0 37 (dk_at dksX7_makesAll_0 4 rfl rfl)
theorem dX7_makesAll_7 : decode cX7_makesAll 7 = .ok (.aload_n 0, 1) := dk_42 (dk_at dksX7_makesAll_0 7 rfl rfl)
theorem dX7_makesAll_8 : decode cX7_makesAll 8 = .ok (.iload_n 1, 1) := dk_27 (dk_at dksX7_makesAll_0 8 rfl rfl)
theorem dX7_makesAll_9 : decode cX7_makesAll 9 = .ok (.aload_n 0, 1) := dk_42 (dk_at dksX7_makesAll_0 9 rfl rfl)
theorem dX7_makesAll_10 : decode cX7_makesAll 10 = .ok (.getfield 19, 3) := dk_180 0 19 (dk_at dksX7_makesAll_0 10 rfl rfl)
theorem dX7_makesAll_13 : decode cX7_makesAll 13 = .ok (.iconst 2, 1) := dk_5 (dk_at dksX7_makesAll_0 13 rfl rfl)
theorem dX7_makesAll_14 : decode cX7_makesAll 14 = .ok (.iload_n 3, 1) := dk_29 (dk_at dksX7_makesAll_0 14 rfl rfl)
theorem dX7_makesAll_15 : decode cX7_makesAll 15 = .ok (.imul, 1) := dk_104 (dk_at dksX7_makesAll_0 15 rfl rfl)
theorem dX7_makesAll_16 : decode cX7_makesAll 16 = .ok (.baload, 1) := dk_51 (dk_at dksX7_makesAll_0 16 rfl rfl)
theorem dX7_makesAll_17 : decode cX7_makesAll 17 = .ok (.aload_n 0, 1) := dk_42 (dk_at dksX7_makesAll_0 17 rfl rfl)
theorem dX7_makesAll_18 : decode cX7_makesAll 18 = .ok (.getfield 19, 3) := dk_180 0 19 (dk_at dksX7_makesAll_0 18 rfl rfl)
theorem dX7_makesAll_21 : decode cX7_makesAll 21 = .ok (.iconst 2, 1) := dk_5 (dk_at dksX7_makesAll_0 21 rfl rfl)
theorem dX7_makesAll_22 : decode cX7_makesAll 22 = .ok (.iload_n 3, 1) := dk_29 (dk_at dksX7_makesAll_0 22 rfl rfl)
theorem dX7_makesAll_23 : decode cX7_makesAll 23 = .ok (.imul, 1) := dk_104 (dk_at dksX7_makesAll_0 23 rfl rfl)
theorem dX7_makesAll_24 : decode cX7_makesAll 24 = .ok (.iconst 1, 1) := dk_4 (dk_at dksX7_makesAll_1 0 rfl rfl)
theorem dX7_makesAll_25 : decode cX7_makesAll 25 = .ok (.iadd, 1) := dk_96 (dk_at dksX7_makesAll_1 1 rfl rfl)
theorem dX7_makesAll_26 : decode cX7_makesAll 26 = .ok (.baload, 1) := dk_51 (dk_at dksX7_makesAll_1 2 rfl rfl)
theorem dX7_makesAll_27 : decode cX7_makesAll 27 = .ok (.invokevirtual 398, 3) := dk_182 1 142 (dk_at dksX7_makesAll_1 3 rfl rfl)
theorem dX7_makesAll_30 : decode cX7_makesAll 30 = .ok (.ifCond .ne 5, 3) := dk_154 0 5 (dk_at dksX7_makesAll_1 6 rfl rfl)
theorem dX7_makesAll_33 : decode cX7_makesAll 33 = .ok (.iconst 0, 1) := dk_3 (dk_at dksX7_makesAll_1 9 rfl rfl)
theorem dX7_makesAll_34 : decode cX7_makesAll 34 = .ok (.ireturn, 1) := dk_172 (dk_at dksX7_makesAll_1 10 rfl rfl)
theorem dX7_makesAll_35 : decode cX7_makesAll 35 = .ok (.iinc 3 1, 3) := dk_132 3 1 (dk_at dksX7_makesAll_1 11 rfl rfl)
theorem dX7_makesAll_38 : decode cX7_makesAll 38 = .ok (.goto (-36), 3) := dk_167 255 220 (dk_at dksX7_makesAll_1 14 rfl rfl)
theorem dX7_makesAll_41 : decode cX7_makesAll 41 = .ok (.iconst 1, 1) := dk_4 (dk_at dksX7_makesAll_1 17 rfl rfl)
theorem dX7_makesAll_42 : decode cX7_makesAll 42 = .ok (.ireturn, 1) := dk_172 (dk_at dksX7_makesAll_1 18 rfl rfl)
abbrev cX7_makes : ByteArray := prog_21_method_99_code
def yX7_makes : MethodName := ⟨RX7, "makes", "(III)Z"⟩
def dkwX7_makes_3 : List UInt8 := [21, 7, 182, 0, 236, 21, 6, 96, 159, 0, 5, 3, 172, 132, 7, 1, 167, 255, 202, 4, 172]
abbrev dktX7_makes_3 : List UInt8 := dkwX7_makes_3 ++ []
def dkwX7_makes_2 : List UInt8 := [16, 8, 112, 182, 0, 236, 21, 5, 153, 0, 14, 42, 28, 21, 7, 182, 0, 236, 116, 167, 0, 10, 42, 28]
abbrev dktX7_makes_2 : List UInt8 := dkwX7_makes_2 ++ dktX7_makes_3
def dkwX7_makes_1 : List UInt8 := [16, 7, 112, 6, 100, 54, 6, 3, 54, 7, 21, 7, 16, 8, 162, 0, 53, 42, 29, 21, 7, 21, 4, 96]
abbrev dktX7_makes_1 : List UInt8 := dkwX7_makes_1 ++ dktX7_makes_2
def dkwX7_makes_0 : List UInt8 := [27, 16, 14, 108, 54, 4, 27, 16, 14, 112, 16, 6, 164, 0, 7, 4, 167, 0, 4, 3, 54, 5, 27]
abbrev dktX7_makes_0 : List UInt8 := dkwX7_makes_0 ++ dktX7_makes_1
theorem dksX7_makes_0 : cX7_makes.data.toList.drop 0 = dktX7_makes_0 := by decide +kernel
theorem dksX7_makes_1 : cX7_makes.data.toList.drop 23 = dktX7_makes_1 := dk_seg dksX7_makes_0 23 rfl rfl
theorem dksX7_makes_2 : cX7_makes.data.toList.drop 47 = dktX7_makes_2 := dk_seg dksX7_makes_1 24 rfl rfl
theorem dksX7_makes_3 : cX7_makes.data.toList.drop 71 = dktX7_makes_3 := dk_seg dksX7_makes_2 24 rfl rfl
theorem dX7_makes_0 : decode cX7_makes 0 = .ok (.iload_n 1, 1) := dk_27 (dk_at dksX7_makes_0 0 rfl rfl)
theorem dX7_makes_1 : decode cX7_makes 1 = .ok (.bipush 14, 2) := dk_16 14 (dk_at dksX7_makes_0 1 rfl rfl)
theorem dX7_makes_3 : decode cX7_makes 3 = .ok (.idiv, 1) := dk_108 (dk_at dksX7_makes_0 3 rfl rfl)
theorem dX7_makes_4 : decode cX7_makes 4 = .ok (.istore 4, 2) := dk_54 4 (dk_at dksX7_makes_0 4 rfl rfl)
theorem dX7_makes_6 : decode cX7_makes 6 = .ok (.iload_n 1, 1) := dk_27 (dk_at dksX7_makes_0 6 rfl rfl)
theorem dX7_makes_7 : decode cX7_makes 7 = .ok (.bipush 14, 2) := dk_16 14 (dk_at dksX7_makes_0 7 rfl rfl)
theorem dX7_makes_9 : decode cX7_makes 9 = .ok (.irem, 1) := dk_112 (dk_at dksX7_makes_0 9 rfl rfl)
theorem dX7_makes_10 : decode cX7_makes 10 = .ok (.bipush 6, 2) := dk_16 6 (dk_at dksX7_makes_0 10 rfl rfl)
theorem dX7_makes_12 : decode cX7_makes 12 = .ok (.if_icmp .le 7, 3) := dk_164 0 7 (dk_at dksX7_makes_0 12 rfl rfl)
theorem dX7_makes_15 : decode cX7_makes 15 = .ok (.iconst 1, 1) := dk_4 (dk_at dksX7_makes_0 15 rfl rfl)
theorem dX7_makes_16 : decode cX7_makes 16 = .ok (.goto 4, 3) := dk_167 0 4 (dk_at dksX7_makes_0 16 rfl rfl)
theorem dX7_makes_19 : decode cX7_makes 19 = .ok (.iconst 0, 1) := dk_3 (dk_at dksX7_makes_0 19 rfl rfl)
theorem dX7_makes_20 : decode cX7_makes 20 = .ok (.istore 5, 2) := dk_54 5 (dk_at dksX7_makes_0 20 rfl rfl)
theorem dX7_makes_22 : decode cX7_makes 22 = .ok (.iload_n 1, 1) := dk_27 (dk_at dksX7_makes_0 22 rfl rfl)
theorem dX7_makes_23 : decode cX7_makes 23 = .ok (.bipush 7, 2) := dk_16 7 (dk_at dksX7_makes_1 0 rfl rfl)
theorem dX7_makes_25 : decode cX7_makes 25 = .ok (.irem, 1) := dk_112 (dk_at dksX7_makes_1 2 rfl rfl)
theorem dX7_makes_26 : decode cX7_makes 26 = .ok (.iconst 3, 1) := dk_6 (dk_at dksX7_makes_1 3 rfl rfl)
theorem dX7_makes_27 : decode cX7_makes 27 = .ok (.isub, 1) := dk_100 (dk_at dksX7_makes_1 4 rfl rfl)
theorem dX7_makes_28 : decode cX7_makes 28 = .ok (.istore 6, 2) := dk_54 6 (dk_at dksX7_makes_1 5 rfl rfl)
theorem dX7_makes_30 : decode cX7_makes 30 = .ok (.iconst 0, 1) := dk_3 (dk_at dksX7_makes_1 7 rfl rfl)
theorem dX7_makes_31 : decode cX7_makes 31 = .ok (.istore 7, 2) := dk_54 7 (dk_at dksX7_makes_1 8 rfl rfl)
theorem dX7_makes_33 : decode cX7_makes 33 = .ok (.iload 7, 2) := dk_21 7 (dk_at dksX7_makes_1 10 rfl rfl)
theorem dX7_makes_35 : decode cX7_makes 35 = .ok (.bipush 8, 2) := dk_16 8 (dk_at dksX7_makes_1 12 rfl rfl)
theorem dX7_makes_37 : decode cX7_makes 37 = .ok (.if_icmp .ge 53, 3) := dk_162 0 53 (dk_at dksX7_makes_1 14 rfl rfl)
theorem dX7_makes_40 : decode cX7_makes 40 = .ok (.aload_n 0, 1) := dk_42 (dk_at dksX7_makes_1 17 rfl rfl)
theorem dX7_makes_41 : decode cX7_makes 41 = .ok (.iload_n 3, 1) := dk_29 (dk_at dksX7_makes_1 18 rfl rfl)
theorem dX7_makes_42 : decode cX7_makes 42 = .ok (.iload 7, 2) := dk_21 7 (dk_at dksX7_makes_1 19 rfl rfl)
theorem dX7_makes_44 : decode cX7_makes 44 = .ok (.iload 4, 2) := dk_21 4 (dk_at dksX7_makes_1 21 rfl rfl)
theorem dX7_makes_46 : decode cX7_makes 46 = .ok (.iadd, 1) := dk_96 (dk_at dksX7_makes_1 23 rfl rfl)
theorem dX7_makes_47 : decode cX7_makes 47 = .ok (.bipush 8, 2) := dk_16 8 (dk_at dksX7_makes_2 0 rfl rfl)
theorem dX7_makes_49 : decode cX7_makes 49 = .ok (.irem, 1) := dk_112 (dk_at dksX7_makes_2 2 rfl rfl)
theorem dX7_makes_50 : decode cX7_makes 50 = .ok (.invokevirtual 236, 3) := dk_182 0 236 (dk_at dksX7_makes_2 3 rfl rfl)
theorem dX7_makes_53 : decode cX7_makes 53 = .ok (.iload 5, 2) := dk_21 5 (dk_at dksX7_makes_2 6 rfl rfl)
theorem dX7_makes_55 : decode cX7_makes 55 = .ok (.ifCond .eq 14, 3) := dk_153 0 14 (dk_at dksX7_makes_2 8 rfl rfl)
theorem dX7_makes_58 : decode cX7_makes 58 = .ok (.aload_n 0, 1) := dk_42 (dk_at dksX7_makes_2 11 rfl rfl)
theorem dX7_makes_59 : decode cX7_makes 59 = .ok (.iload_n 2, 1) := dk_28 (dk_at dksX7_makes_2 12 rfl rfl)
theorem dX7_makes_60 : decode cX7_makes 60 = .ok (.iload 7, 2) := dk_21 7 (dk_at dksX7_makes_2 13 rfl rfl)
theorem dX7_makes_62 : decode cX7_makes 62 = .ok (.invokevirtual 236, 3) := dk_182 0 236 (dk_at dksX7_makes_2 15 rfl rfl)
theorem dX7_makes_65 : decode cX7_makes 65 = .ok (.ineg, 1) := dk_116 (dk_at dksX7_makes_2 18 rfl rfl)
theorem dX7_makes_66 : decode cX7_makes 66 = .ok (.goto 10, 3) := dk_167 0 10 (dk_at dksX7_makes_2 19 rfl rfl)
theorem dX7_makes_69 : decode cX7_makes 69 = .ok (.aload_n 0, 1) := dk_42 (dk_at dksX7_makes_2 22 rfl rfl)
theorem dX7_makes_70 : decode cX7_makes 70 = .ok (.iload_n 2, 1) := dk_28 (dk_at dksX7_makes_2 23 rfl rfl)
theorem dX7_makes_71 : decode cX7_makes 71 = .ok (.iload 7, 2) := dk_21 7 (dk_at dksX7_makes_3 0 rfl rfl)
theorem dX7_makes_73 : decode cX7_makes 73 = .ok (.invokevirtual 236, 3) := dk_182 0 236 (dk_at dksX7_makes_3 2 rfl rfl)
theorem dX7_makes_76 : decode cX7_makes 76 = .ok (.iload 6, 2) := dk_21 6 (dk_at dksX7_makes_3 5 rfl rfl)
theorem dX7_makes_78 : decode cX7_makes 78 = .ok (.iadd, 1) := dk_96 (dk_at dksX7_makes_3 7 rfl rfl)
theorem dX7_makes_79 : decode cX7_makes 79 = .ok (.if_icmp .eq 5, 3) := dk_159 0 5 (dk_at dksX7_makes_3 8 rfl rfl)
theorem dX7_makes_82 : decode cX7_makes 82 = .ok (.iconst 0, 1) := dk_3 (dk_at dksX7_makes_3 11 rfl rfl)
theorem dX7_makes_83 : decode cX7_makes 83 = .ok (.ireturn, 1) := dk_172 (dk_at dksX7_makes_3 12 rfl rfl)
theorem dX7_makes_84 : decode cX7_makes 84 = .ok (.iinc 7 1, 3) := dk_132 7 1 (dk_at dksX7_makes_3 13 rfl rfl)
theorem dX7_makes_87 : decode cX7_makes 87 = .ok (.goto (-54), 3) := dk_167 255 202 (dk_at dksX7_makes_3 16 rfl rfl)
theorem dX7_makes_90 : decode cX7_makes 90 = .ok (.iconst 1, 1) := dk_4 (dk_at dksX7_makes_3 19 rfl rfl)
theorem dX7_makes_91 : decode cX7_makes 91 = .ok (.ireturn, 1) := dk_172 (dk_at dksX7_makes_3 20 rfl rfl)
abbrev cX7_copies : ByteArray := prog_21_method_103_code
def yX7_copies : MethodName := ⟨RX7, "copies", "(I)I"⟩
def dkwX7_copies_7 : List UInt8 := [180, 0, 7, 16, 72, 21, 5, 96, 46, 162, 0, 8, 21, 4, 167, 0, 5, 21, 5, 172]
abbrev dktX7_copies_7 : List UInt8 := dkwX7_copies_7 ++ []
def dkwX7_copies_6 : List UInt8 := [167, 0, 43, 27, 5, 160, 0, 8, 21, 5, 167, 0, 33, 42, 180, 0, 7, 16, 72, 21, 4, 96, 46, 42]
abbrev dktX7_copies_6 : List UInt8 := dkwX7_copies_6 ++ dktX7_copies_7
def dkwX7_copies_5 : List UInt8 := [16, 254, 172, 29, 16, 12, 108, 54, 4, 29, 16, 12, 112, 54, 5, 27, 4, 160, 0, 8, 21, 4]
abbrev dktX7_copies_5 : List UInt8 := dkwX7_copies_5 ++ dktX7_copies_6
def dkwX7_copies_4 : List UInt8 := [132, 5, 1, 167, 255, 193, 132, 4, 1, 167, 255, 174, 27, 154, 0, 5, 28, 172, 29, 2, 160, 0, 6]
abbrev dktX7_copies_4 : List UInt8 := dkwX7_copies_4 ++ dktX7_copies_5
def dkwX7_copies_3 : List UInt8 := [167, 0, 24, 28, 154, 0, 14, 16, 12, 21, 4, 104, 21, 5, 96, 167, 0, 4, 29, 62, 28, 4, 96, 61]
abbrev dktX7_copies_3 : List UInt8 := dkwX7_copies_3 ++ dktX7_copies_4
def dkwX7_copies_2 : List UInt8 := [153, 0, 47, 42, 21, 5, 182, 0, 105, 153, 0, 38, 42, 21, 4, 21, 5, 182, 1, 148, 154, 0, 6]
abbrev dktX7_copies_2 : List UInt8 := dkwX7_copies_2 ++ dktX7_copies_3
def dkwX7_copies_1 : List UInt8 := [162, 0, 81, 21, 4, 4, 96, 54, 5, 21, 5, 16, 12, 162, 0, 62, 42, 21, 4, 182, 0, 105]
abbrev dktX7_copies_1 : List UInt8 := dkwX7_copies_1 ++ dktX7_copies_2
def dkwX7_copies_0 : List UInt8 := [27, 3, 6, 184, 0, 111, 154, 0, 5, 2, 172, 3, 61, 2, 62, 3, 54, 4, 21, 4, 16, 12]
abbrev dktX7_copies_0 : List UInt8 := dkwX7_copies_0 ++ dktX7_copies_1
theorem dksX7_copies_0 : cX7_copies.data.toList.drop 0 = dktX7_copies_0 := by decide +kernel
theorem dksX7_copies_1 : cX7_copies.data.toList.drop 22 = dktX7_copies_1 := dk_seg dksX7_copies_0 22 rfl rfl
theorem dksX7_copies_2 : cX7_copies.data.toList.drop 44 = dktX7_copies_2 := dk_seg dksX7_copies_1 22 rfl rfl
theorem dksX7_copies_3 : cX7_copies.data.toList.drop 67 = dktX7_copies_3 := dk_seg dksX7_copies_2 23 rfl rfl
theorem dksX7_copies_4 : cX7_copies.data.toList.drop 91 = dktX7_copies_4 := dk_seg dksX7_copies_3 24 rfl rfl
theorem dksX7_copies_5 : cX7_copies.data.toList.drop 114 = dktX7_copies_5 := dk_seg dksX7_copies_4 23 rfl rfl
theorem dksX7_copies_6 : cX7_copies.data.toList.drop 136 = dktX7_copies_6 := dk_seg dksX7_copies_5 22 rfl rfl
theorem dksX7_copies_7 : cX7_copies.data.toList.drop 160 = dktX7_copies_7 := dk_seg dksX7_copies_6 24 rfl rfl
theorem dX7_copies_0 : decode cX7_copies 0 = .ok (.iload_n 1, 1) := dk_27 (dk_at dksX7_copies_0 0 rfl rfl)
theorem dX7_copies_1 : decode cX7_copies 1 = .ok (.iconst 0, 1) := dk_3 (dk_at dksX7_copies_0 1 rfl rfl)
theorem dX7_copies_2 : decode cX7_copies 2 = .ok (.iconst 3, 1) := dk_6 (dk_at dksX7_copies_0 2 rfl rfl)
theorem dX7_copies_3 : decode cX7_copies 3 = .ok (.invokestatic 111, 3) := dk_184 0 111 (dk_at dksX7_copies_0 3 rfl rfl)
theorem dX7_copies_6 : decode cX7_copies 6 = .ok (.ifCond .ne 5, 3) := dk_154 0 5 (dk_at dksX7_copies_0 6 rfl rfl)
theorem dX7_copies_9 : decode cX7_copies 9 = .ok (.iconst (-1), 1) := dk_2 (dk_at dksX7_copies_0 9 rfl rfl)
theorem dX7_copies_10 : decode cX7_copies 10 = .ok (.ireturn, 1) := dk_172 (dk_at dksX7_copies_0 10 rfl rfl)
theorem dX7_copies_11 : decode cX7_copies 11 = .ok (.iconst 0, 1) := dk_3 (dk_at dksX7_copies_0 11 rfl rfl)
theorem dX7_copies_12 : decode cX7_copies 12 = .ok (.istore_n 2, 1) := dk_61 (dk_at dksX7_copies_0 12 rfl rfl)
theorem dX7_copies_13 : decode cX7_copies 13 = .ok (.iconst (-1), 1) := dk_2 (dk_at dksX7_copies_0 13 rfl rfl)
theorem dX7_copies_14 : decode cX7_copies 14 = .ok (.istore_n 3, 1) := dk_62 (dk_at dksX7_copies_0 14 rfl rfl)
theorem dX7_copies_15 : decode cX7_copies 15 = .ok (.iconst 0, 1) := dk_3 (dk_at dksX7_copies_0 15 rfl rfl)
theorem dX7_copies_16 : decode cX7_copies 16 = .ok (.istore 4, 2) := dk_54 4 (dk_at dksX7_copies_0 16 rfl rfl)
theorem dX7_copies_18 : decode cX7_copies 18 = .ok (.iload 4, 2) := dk_21 4 (dk_at dksX7_copies_0 18 rfl rfl)
theorem dX7_copies_20 : decode cX7_copies 20 = .ok (.bipush 12, 2) := dk_16 12 (dk_at dksX7_copies_0 20 rfl rfl)
theorem dX7_copies_22 : decode cX7_copies 22 = .ok (.if_icmp .ge 81, 3) := dk_162 0 81 (dk_at dksX7_copies_1 0 rfl rfl)
theorem dX7_copies_25 : decode cX7_copies 25 = .ok (.iload 4, 2) := dk_21 4 (dk_at dksX7_copies_1 3 rfl rfl)
theorem dX7_copies_27 : decode cX7_copies 27 = .ok (.iconst 1, 1) := dk_4 (dk_at dksX7_copies_1 5 rfl rfl)
theorem dX7_copies_28 : decode cX7_copies 28 = .ok (.iadd, 1) := dk_96 (dk_at dksX7_copies_1 6 rfl rfl)
theorem dX7_copies_29 : decode cX7_copies 29 = .ok (.istore 5, 2) := dk_54 5 (dk_at dksX7_copies_1 7 rfl rfl)
theorem dX7_copies_31 : decode cX7_copies 31 = .ok (.iload 5, 2) := dk_21 5 (dk_at dksX7_copies_1 9 rfl rfl)
theorem dX7_copies_33 : decode cX7_copies 33 = .ok (.bipush 12, 2) := dk_16 12 (dk_at dksX7_copies_1 11 rfl rfl)
theorem dX7_copies_35 : decode cX7_copies 35 = .ok (.if_icmp .ge 62, 3) := dk_162 0 62 (dk_at dksX7_copies_1 13 rfl rfl)
theorem dX7_copies_38 : decode cX7_copies 38 = .ok (.aload_n 0, 1) := dk_42 (dk_at dksX7_copies_1 16 rfl rfl)
theorem dX7_copies_39 : decode cX7_copies 39 = .ok (.iload 4, 2) := dk_21 4 (dk_at dksX7_copies_1 17 rfl rfl)
theorem dX7_copies_41 : decode cX7_copies 41 = .ok (.invokevirtual 105, 3) := dk_182 0 105 (dk_at dksX7_copies_1 19 rfl rfl)
theorem dX7_copies_44 : decode cX7_copies 44 = .ok (.ifCond .eq 47, 3) := dk_153 0 47 (dk_at dksX7_copies_2 0 rfl rfl)
theorem dX7_copies_47 : decode cX7_copies 47 = .ok (.aload_n 0, 1) := dk_42 (dk_at dksX7_copies_2 3 rfl rfl)
theorem dX7_copies_48 : decode cX7_copies 48 = .ok (.iload 5, 2) := dk_21 5 (dk_at dksX7_copies_2 4 rfl rfl)
theorem dX7_copies_50 : decode cX7_copies 50 = .ok (.invokevirtual 105, 3) := dk_182 0 105 (dk_at dksX7_copies_2 6 rfl rfl)
theorem dX7_copies_53 : decode cX7_copies 53 = .ok (.ifCond .eq 38, 3) := dk_153 0 38 (dk_at dksX7_copies_2 9 rfl rfl)
theorem dX7_copies_56 : decode cX7_copies 56 = .ok (.aload_n 0, 1) := dk_42 (dk_at dksX7_copies_2 12 rfl rfl)
theorem dX7_copies_57 : decode cX7_copies 57 = .ok (.iload 4, 2) := dk_21 4 (dk_at dksX7_copies_2 13 rfl rfl)
theorem dX7_copies_59 : decode cX7_copies 59 = .ok (.iload 5, 2) := dk_21 5 (dk_at dksX7_copies_2 15 rfl rfl)
theorem dX7_copies_61 : decode cX7_copies 61 = .ok (.invokevirtual 404, 3) := dk_182 1 148 (dk_at dksX7_copies_2 17 rfl rfl)
theorem dX7_copies_64 : decode cX7_copies 64 = .ok (.ifCond .ne 6, 3) := dk_154 0 6 (dk_at dksX7_copies_2 20 rfl rfl)
theorem dX7_copies_67 : decode cX7_copies 67 = .ok (.goto 24, 3) := dk_167 0 24 (dk_at dksX7_copies_3 0 rfl rfl)
theorem dX7_copies_70 : decode cX7_copies 70 = .ok (.iload_n 2, 1) := dk_28 (dk_at dksX7_copies_3 3 rfl rfl)
theorem dX7_copies_71 : decode cX7_copies 71 = .ok (.ifCond .ne 14, 3) := dk_154 0 14 (dk_at dksX7_copies_3 4 rfl rfl)
theorem dX7_copies_74 : decode cX7_copies 74 = .ok (.bipush 12, 2) := dk_16 12 (dk_at dksX7_copies_3 7 rfl rfl)
theorem dX7_copies_76 : decode cX7_copies 76 = .ok (.iload 4, 2) := dk_21 4 (dk_at dksX7_copies_3 9 rfl rfl)
theorem dX7_copies_78 : decode cX7_copies 78 = .ok (.imul, 1) := dk_104 (dk_at dksX7_copies_3 11 rfl rfl)
theorem dX7_copies_79 : decode cX7_copies 79 = .ok (.iload 5, 2) := dk_21 5 (dk_at dksX7_copies_3 12 rfl rfl)
theorem dX7_copies_81 : decode cX7_copies 81 = .ok (.iadd, 1) := dk_96 (dk_at dksX7_copies_3 14 rfl rfl)
theorem dX7_copies_82 : decode cX7_copies 82 = .ok (.goto 4, 3) := dk_167 0 4 (dk_at dksX7_copies_3 15 rfl rfl)
theorem dX7_copies_85 : decode cX7_copies 85 = .ok (.iload_n 3, 1) := dk_29 (dk_at dksX7_copies_3 18 rfl rfl)
theorem dX7_copies_86 : decode cX7_copies 86 = .ok (.istore_n 3, 1) := dk_62 (dk_at dksX7_copies_3 19 rfl rfl)
theorem dX7_copies_87 : decode cX7_copies 87 = .ok (.iload_n 2, 1) := dk_28 (dk_at dksX7_copies_3 20 rfl rfl)
theorem dX7_copies_88 : decode cX7_copies 88 = .ok (.iconst 1, 1) := dk_4 (dk_at dksX7_copies_3 21 rfl rfl)
theorem dX7_copies_89 : decode cX7_copies 89 = .ok (.iadd, 1) := dk_96 (dk_at dksX7_copies_3 22 rfl rfl)
theorem dX7_copies_90 : decode cX7_copies 90 = .ok (.istore_n 2, 1) := dk_61 (dk_at dksX7_copies_3 23 rfl rfl)
theorem dX7_copies_91 : decode cX7_copies 91 = .ok (.iinc 5 1, 3) := dk_132 5 1 (dk_at dksX7_copies_4 0 rfl rfl)
theorem dX7_copies_94 : decode cX7_copies 94 = .ok (.goto (-63), 3) := dk_167 255 193 (dk_at dksX7_copies_4 3 rfl rfl)
theorem dX7_copies_97 : decode cX7_copies 97 = .ok (.iinc 4 1, 3) := dk_132 4 1 (dk_at dksX7_copies_4 6 rfl rfl)
theorem dX7_copies_100 : decode cX7_copies 100 = .ok (.goto (-82), 3) := dk_167 255 174 (dk_at dksX7_copies_4 9 rfl rfl)
theorem dX7_copies_103 : decode cX7_copies 103 = .ok (.iload_n 1, 1) := dk_27 (dk_at dksX7_copies_4 12 rfl rfl)
theorem dX7_copies_104 : decode cX7_copies 104 = .ok (.ifCond .ne 5, 3) := dk_154 0 5 (dk_at dksX7_copies_4 13 rfl rfl)
theorem dX7_copies_107 : decode cX7_copies 107 = .ok (.iload_n 2, 1) := dk_28 (dk_at dksX7_copies_4 16 rfl rfl)
theorem dX7_copies_108 : decode cX7_copies 108 = .ok (.ireturn, 1) := dk_172 (dk_at dksX7_copies_4 17 rfl rfl)
theorem dX7_copies_109 : decode cX7_copies 109 = .ok (.iload_n 3, 1) := dk_29 (dk_at dksX7_copies_4 18 rfl rfl)
theorem dX7_copies_110 : decode cX7_copies 110 = .ok (.iconst (-1), 1) := dk_2 (dk_at dksX7_copies_4 19 rfl rfl)
theorem dX7_copies_111 : decode cX7_copies 111 = .ok (.if_icmp .ne 6, 3) := dk_160 0 6 (dk_at dksX7_copies_4 20 rfl rfl)
theorem dX7_copies_114 : decode cX7_copies 114 = .ok (.bipush (-2), 2) := dk_16 254 (dk_at dksX7_copies_5 0 rfl rfl)
theorem dX7_copies_116 : decode cX7_copies 116 = .ok (.ireturn, 1) := dk_172 (dk_at dksX7_copies_5 2 rfl rfl)
theorem dX7_copies_117 : decode cX7_copies 117 = .ok (.iload_n 3, 1) := dk_29 (dk_at dksX7_copies_5 3 rfl rfl)
theorem dX7_copies_118 : decode cX7_copies 118 = .ok (.bipush 12, 2) := dk_16 12 (dk_at dksX7_copies_5 4 rfl rfl)
theorem dX7_copies_120 : decode cX7_copies 120 = .ok (.idiv, 1) := dk_108 (dk_at dksX7_copies_5 6 rfl rfl)
theorem dX7_copies_121 : decode cX7_copies 121 = .ok (.istore 4, 2) := dk_54 4 (dk_at dksX7_copies_5 7 rfl rfl)
theorem dX7_copies_123 : decode cX7_copies 123 = .ok (.iload_n 3, 1) := dk_29 (dk_at dksX7_copies_5 9 rfl rfl)
theorem dX7_copies_124 : decode cX7_copies 124 = .ok (.bipush 12, 2) := dk_16 12 (dk_at dksX7_copies_5 10 rfl rfl)
theorem dX7_copies_126 : decode cX7_copies 126 = .ok (.irem, 1) := dk_112 (dk_at dksX7_copies_5 12 rfl rfl)
theorem dX7_copies_127 : decode cX7_copies 127 = .ok (.istore 5, 2) := dk_54 5 (dk_at dksX7_copies_5 13 rfl rfl)
theorem dX7_copies_129 : decode cX7_copies 129 = .ok (.iload_n 1, 1) := dk_27 (dk_at dksX7_copies_5 15 rfl rfl)
theorem dX7_copies_130 : decode cX7_copies 130 = .ok (.iconst 1, 1) := dk_4 (dk_at dksX7_copies_5 16 rfl rfl)
theorem dX7_copies_131 : decode cX7_copies 131 = .ok (.if_icmp .ne 8, 3) := dk_160 0 8 (dk_at dksX7_copies_5 17 rfl rfl)
theorem dX7_copies_134 : decode cX7_copies 134 = .ok (.iload 4, 2) := dk_21 4 (dk_at dksX7_copies_5 20 rfl rfl)
theorem dX7_copies_136 : decode cX7_copies 136 = .ok (.goto 43, 3) := dk_167 0 43 (dk_at dksX7_copies_6 0 rfl rfl)
theorem dX7_copies_139 : decode cX7_copies 139 = .ok (.iload_n 1, 1) := dk_27 (dk_at dksX7_copies_6 3 rfl rfl)
theorem dX7_copies_140 : decode cX7_copies 140 = .ok (.iconst 2, 1) := dk_5 (dk_at dksX7_copies_6 4 rfl rfl)
theorem dX7_copies_141 : decode cX7_copies 141 = .ok (.if_icmp .ne 8, 3) := dk_160 0 8 (dk_at dksX7_copies_6 5 rfl rfl)
theorem dX7_copies_144 : decode cX7_copies 144 = .ok (.iload 5, 2) := dk_21 5 (dk_at dksX7_copies_6 8 rfl rfl)
theorem dX7_copies_146 : decode cX7_copies 146 = .ok (.goto 33, 3) := dk_167 0 33 (dk_at dksX7_copies_6 10 rfl rfl)
theorem dX7_copies_149 : decode cX7_copies 149 = .ok (.aload_n 0, 1) := dk_42 (dk_at dksX7_copies_6 13 rfl rfl)
theorem dX7_copies_150 : decode cX7_copies 150 = .ok (.getfield 7, 3) := dk_180 0 7 (dk_at dksX7_copies_6 14 rfl rfl)
theorem dX7_copies_153 : decode cX7_copies 153 = .ok (.bipush 72, 2) := dk_16 72 (dk_at dksX7_copies_6 17 rfl rfl)
theorem dX7_copies_155 : decode cX7_copies 155 = .ok (.iload 4, 2) := dk_21 4 (dk_at dksX7_copies_6 19 rfl rfl)
theorem dX7_copies_157 : decode cX7_copies 157 = .ok (.iadd, 1) := dk_96 (dk_at dksX7_copies_6 21 rfl rfl)
theorem dX7_copies_158 : decode cX7_copies 158 = .ok (.iaload, 1) := dk_46 (dk_at dksX7_copies_6 22 rfl rfl)
theorem dX7_copies_159 : decode cX7_copies 159 = .ok (.aload_n 0, 1) := dk_42 (dk_at dksX7_copies_6 23 rfl rfl)
theorem dX7_copies_160 : decode cX7_copies 160 = .ok (.getfield 7, 3) := dk_180 0 7 (dk_at dksX7_copies_7 0 rfl rfl)
theorem dX7_copies_163 : decode cX7_copies 163 = .ok (.bipush 72, 2) := dk_16 72 (dk_at dksX7_copies_7 3 rfl rfl)
theorem dX7_copies_165 : decode cX7_copies 165 = .ok (.iload 5, 2) := dk_21 5 (dk_at dksX7_copies_7 5 rfl rfl)
theorem dX7_copies_167 : decode cX7_copies 167 = .ok (.iadd, 1) := dk_96 (dk_at dksX7_copies_7 7 rfl rfl)
theorem dX7_copies_168 : decode cX7_copies 168 = .ok (.iaload, 1) := dk_46 (dk_at dksX7_copies_7 8 rfl rfl)
theorem dX7_copies_169 : decode cX7_copies 169 = .ok (.if_icmp .ge 8, 3) := dk_162 0 8 (dk_at dksX7_copies_7 9 rfl rfl)
theorem dX7_copies_172 : decode cX7_copies 172 = .ok (.iload 4, 2) := dk_21 4 (dk_at dksX7_copies_7 12 rfl rfl)
theorem dX7_copies_174 : decode cX7_copies 174 = .ok (.goto 5, 3) := dk_167 0 5 (dk_at dksX7_copies_7 14 rfl rfl)
theorem dX7_copies_177 : decode cX7_copies 177 = .ok (.iload 5, 2) := dk_21 5 (dk_at dksX7_copies_7 17 rfl rfl)
theorem dX7_copies_179 : decode cX7_copies 179 = .ok (.ireturn, 1) := dk_172 (dk_at dksX7_copies_7 19 rfl rfl)
abbrev cX7_areSame : ByteArray := prog_21_method_102_code
def yX7_areSame : MethodName := ⟨RX7, "areSame", "(II)Z"⟩
def dkwX7_areSame_1 : List UInt8 := [172, 132, 3, 1, 167, 255, 230, 4, 172]
abbrev dktX7_areSame_1 : List UInt8 := dkwX7_areSame_1 ++ []
def dkwX7_areSame_0 : List UInt8 := [3, 62, 29, 16, 8, 162, 0, 26, 42, 27, 29, 182, 0, 236, 42, 28, 29, 182, 0, 236, 159, 0, 5, 3]
abbrev dktX7_areSame_0 : List UInt8 := dkwX7_areSame_0 ++ dktX7_areSame_1
theorem dksX7_areSame_0 : cX7_areSame.data.toList.drop 0 = dktX7_areSame_0 := by decide +kernel
theorem dksX7_areSame_1 : cX7_areSame.data.toList.drop 24 = dktX7_areSame_1 := dk_seg dksX7_areSame_0 24 rfl rfl
theorem dX7_areSame_0 : decode cX7_areSame 0 = .ok (.iconst 0, 1) := dk_3 (dk_at dksX7_areSame_0 0 rfl rfl)
theorem dX7_areSame_1 : decode cX7_areSame 1 = .ok (.istore_n 3, 1) := dk_62 (dk_at dksX7_areSame_0 1 rfl rfl)
theorem dX7_areSame_2 : decode cX7_areSame 2 = .ok (.iload_n 3, 1) := dk_29 (dk_at dksX7_areSame_0 2 rfl rfl)
theorem dX7_areSame_3 : decode cX7_areSame 3 = .ok (.bipush 8, 2) := dk_16 8 (dk_at dksX7_areSame_0 3 rfl rfl)
theorem dX7_areSame_5 : decode cX7_areSame 5 = .ok (.if_icmp .ge 26, 3) := dk_162 0 26 (dk_at dksX7_areSame_0 5 rfl rfl)
theorem dX7_areSame_8 : decode cX7_areSame 8 = .ok (.aload_n 0, 1) := dk_42 (dk_at dksX7_areSame_0 8 rfl rfl)
theorem dX7_areSame_9 : decode cX7_areSame 9 = .ok (.iload_n 1, 1) := dk_27 (dk_at dksX7_areSame_0 9 rfl rfl)
theorem dX7_areSame_10 : decode cX7_areSame 10 = .ok (.iload_n 3, 1) := dk_29 (dk_at dksX7_areSame_0 10 rfl rfl)
theorem dX7_areSame_11 : decode cX7_areSame 11 = .ok (.invokevirtual 236, 3) := dk_182 0 236 (dk_at dksX7_areSame_0 11 rfl rfl)
theorem dX7_areSame_14 : decode cX7_areSame 14 = .ok (.aload_n 0, 1) := dk_42 (dk_at dksX7_areSame_0 14 rfl rfl)
theorem dX7_areSame_15 : decode cX7_areSame 15 = .ok (.iload_n 2, 1) := dk_28 (dk_at dksX7_areSame_0 15 rfl rfl)
theorem dX7_areSame_16 : decode cX7_areSame 16 = .ok (.iload_n 3, 1) := dk_29 (dk_at dksX7_areSame_0 16 rfl rfl)
theorem dX7_areSame_17 : decode cX7_areSame 17 = .ok (.invokevirtual 236, 3) := dk_182 0 236 (dk_at dksX7_areSame_0 17 rfl rfl)
theorem dX7_areSame_20 : decode cX7_areSame 20 = .ok (.if_icmp .eq 5, 3) := dk_159 0 5 (dk_at dksX7_areSame_0 20 rfl rfl)
theorem dX7_areSame_23 : decode cX7_areSame 23 = .ok (.iconst 0, 1) := dk_3 (dk_at dksX7_areSame_0 23 rfl rfl)
theorem dX7_areSame_24 : decode cX7_areSame 24 = .ok (.ireturn, 1) := dk_172 (dk_at dksX7_areSame_1 0 rfl rfl)
theorem dX7_areSame_25 : decode cX7_areSame 25 = .ok (.iinc 3 1, 3) := dk_132 3 1 (dk_at dksX7_areSame_1 1 rfl rfl)
theorem dX7_areSame_28 : decode cX7_areSame 28 = .ok (.goto (-26), 3) := dk_167 255 230 (dk_at dksX7_areSame_1 4 rfl rfl)
theorem dX7_areSame_31 : decode cX7_areSame 31 = .ok (.iconst 1, 1) := dk_4 (dk_at dksX7_areSame_1 7 rfl rfl)
theorem dX7_areSame_32 : decode cX7_areSame 32 = .ok (.ireturn, 1) := dk_172 (dk_at dksX7_areSame_1 8 rfl rfl)
abbrev cX7_mate : ByteArray := prog_21_method_104_code
def yX7_mate : MethodName := ⟨RX7, "mate", "(II)I"⟩
def dkwX7_mate_1 : List UInt8 := [100, 182, 0, 236, 100, 167, 0, 4, 2, 172]
abbrev dktX7_mate_1 : List UInt8 := dkwX7_mate_1 ++ []
def dkwX7_mate_0 : List UInt8 := [27, 184, 0, 97, 153, 0, 28, 28, 3, 16, 7, 184, 0, 111, 153, 0, 18, 16, 10, 42, 27, 16, 7, 28]
abbrev dktX7_mate_0 : List UInt8 := dkwX7_mate_0 ++ dktX7_mate_1
theorem dksX7_mate_0 : cX7_mate.data.toList.drop 0 = dktX7_mate_0 := by decide +kernel
theorem dksX7_mate_1 : cX7_mate.data.toList.drop 24 = dktX7_mate_1 := dk_seg dksX7_mate_0 24 rfl rfl
theorem dX7_mate_0 : decode cX7_mate 0 = .ok (.iload_n 1, 1) := dk_27 (dk_at dksX7_mate_0 0 rfl rfl)
theorem dX7_mate_1 : decode cX7_mate 1 = .ok (.invokestatic 97, 3) := dk_184 0 97 (dk_at dksX7_mate_0 1 rfl rfl)
theorem dX7_mate_4 : decode cX7_mate 4 = .ok (.ifCond .eq 28, 3) := dk_153 0 28 (dk_at dksX7_mate_0 4 rfl rfl)
theorem dX7_mate_7 : decode cX7_mate 7 = .ok (.iload_n 2, 1) := dk_28 (dk_at dksX7_mate_0 7 rfl rfl)
theorem dX7_mate_8 : decode cX7_mate 8 = .ok (.iconst 0, 1) := dk_3 (dk_at dksX7_mate_0 8 rfl rfl)
theorem dX7_mate_9 : decode cX7_mate 9 = .ok (.bipush 7, 2) := dk_16 7 (dk_at dksX7_mate_0 9 rfl rfl)
theorem dX7_mate_11 : decode cX7_mate 11 = .ok (.invokestatic 111, 3) := dk_184 0 111 (dk_at dksX7_mate_0 11 rfl rfl)
theorem dX7_mate_14 : decode cX7_mate 14 = .ok (.ifCond .eq 18, 3) := dk_153 0 18 (dk_at dksX7_mate_0 14 rfl rfl)
theorem dX7_mate_17 : decode cX7_mate 17 = .ok (.bipush 10, 2) := dk_16 10 (dk_at dksX7_mate_0 17 rfl rfl)
theorem dX7_mate_19 : decode cX7_mate 19 = .ok (.aload_n 0, 1) := dk_42 (dk_at dksX7_mate_0 19 rfl rfl)
theorem dX7_mate_20 : decode cX7_mate 20 = .ok (.iload_n 1, 1) := dk_27 (dk_at dksX7_mate_0 20 rfl rfl)
theorem dX7_mate_21 : decode cX7_mate 21 = .ok (.bipush 7, 2) := dk_16 7 (dk_at dksX7_mate_0 21 rfl rfl)
theorem dX7_mate_23 : decode cX7_mate 23 = .ok (.iload_n 2, 1) := dk_28 (dk_at dksX7_mate_0 23 rfl rfl)
theorem dX7_mate_24 : decode cX7_mate 24 = .ok (.isub, 1) := dk_100 (dk_at dksX7_mate_1 0 rfl rfl)
theorem dX7_mate_25 : decode cX7_mate 25 = .ok (.invokevirtual 236, 3) := dk_182 0 236 (dk_at dksX7_mate_1 1 rfl rfl)
theorem dX7_mate_28 : decode cX7_mate 28 = .ok (.isub, 1) := dk_100 (dk_at dksX7_mate_1 4 rfl rfl)
theorem dX7_mate_29 : decode cX7_mate 29 = .ok (.goto 4, 3) := dk_167 0 4 (dk_at dksX7_mate_1 5 rfl rfl)
theorem dX7_mate_32 : decode cX7_mate 32 = .ok (.iconst (-1), 1) := dk_2 (dk_at dksX7_mate_1 8 rfl rfl)
theorem dX7_mate_33 : decode cX7_mate 33 = .ok (.ireturn, 1) := dk_172 (dk_at dksX7_mate_1 9 rfl rfl)
abbrev cX7_seed : ByteArray := prog_21_method_105_code
def yX7_seed : MethodName := ⟨RX7, "seed", "(I)Z"⟩
def dkwX7_seed_0 : List UInt8 := [27, 3, 19, 1, 151, 184, 0, 111, 154, 0, 5, 3, 172, 42, 180, 0, 7, 16, 111, 27, 79, 4, 172]
abbrev dktX7_seed_0 : List UInt8 := dkwX7_seed_0 ++ []
theorem dksX7_seed_0 : cX7_seed.data.toList.drop 0 = dktX7_seed_0 := by decide +kernel
theorem dX7_seed_0 : decode cX7_seed 0 = .ok (.iload_n 1, 1) := dk_27 (dk_at dksX7_seed_0 0 rfl rfl)
theorem dX7_seed_1 : decode cX7_seed 1 = .ok (.iconst 0, 1) := dk_3 (dk_at dksX7_seed_0 1 rfl rfl)
theorem dX7_seed_2 : decode cX7_seed 2 = .ok (.ldc_w 407, 3) := dk_19 1 151 (dk_at dksX7_seed_0 2 rfl rfl)
theorem dX7_seed_5 : decode cX7_seed 5 = .ok (.invokestatic 111, 3) := dk_184 0 111 (dk_at dksX7_seed_0 5 rfl rfl)
theorem dX7_seed_8 : decode cX7_seed 8 = .ok (.ifCond .ne 5, 3) := dk_154 0 5 (dk_at dksX7_seed_0 8 rfl rfl)
theorem dX7_seed_11 : decode cX7_seed 11 = .ok (.iconst 0, 1) := dk_3 (dk_at dksX7_seed_0 11 rfl rfl)
theorem dX7_seed_12 : decode cX7_seed 12 = .ok (.ireturn, 1) := dk_172 (dk_at dksX7_seed_0 12 rfl rfl)
theorem dX7_seed_13 : decode cX7_seed 13 = .ok (.aload_n 0, 1) := dk_42 (dk_at dksX7_seed_0 13 rfl rfl)
theorem dX7_seed_14 : decode cX7_seed 14 = .ok (.getfield 7, 3) := dk_180 0 7 (dk_at dksX7_seed_0 14 rfl rfl)
theorem dX7_seed_17 : decode cX7_seed 17 = .ok (.bipush 111, 2) := dk_16 111 (dk_at dksX7_seed_0 17 rfl rfl)
theorem dX7_seed_19 : decode cX7_seed 19 = .ok (.iload_n 1, 1) := dk_27 (dk_at dksX7_seed_0 19 rfl rfl)
theorem dX7_seed_20 : decode cX7_seed 20 = .ok (.iastore, 1) := dk_79 (dk_at dksX7_seed_0 20 rfl rfl)
theorem dX7_seed_21 : decode cX7_seed 21 = .ok (.iconst 1, 1) := dk_4 (dk_at dksX7_seed_0 21 rfl rfl)
theorem dX7_seed_22 : decode cX7_seed 22 = .ok (.ireturn, 1) := dk_172 (dk_at dksX7_seed_0 22 rfl rfl)
abbrev cX7_keep : ByteArray := prog_21_method_106_code
def yX7_keep : MethodName := ⟨RX7, "keep", "()I"⟩
def dkwX7_keep_0 : List UInt8 := [42, 4, 181, 1, 152, 42, 180, 0, 7, 42, 180, 0, 16, 184, 1, 61, 42, 182, 1, 65, 172]
abbrev dktX7_keep_0 : List UInt8 := dkwX7_keep_0 ++ []
theorem dksX7_keep_0 : cX7_keep.data.toList.drop 0 = dktX7_keep_0 := by decide +kernel
theorem dX7_keep_0 : decode cX7_keep 0 = .ok (.aload_n 0, 1) := dk_42 (dk_at dksX7_keep_0 0 rfl rfl)
theorem dX7_keep_1 : decode cX7_keep 1 = .ok (.iconst 1, 1) := dk_4 (dk_at dksX7_keep_0 1 rfl rfl)
theorem dX7_keep_2 : decode cX7_keep 2 = .ok (.putfield 408, 3) := dk_181 1 152 (dk_at dksX7_keep_0 2 rfl rfl)
theorem dX7_keep_5 : decode cX7_keep 5 = .ok (.aload_n 0, 1) := dk_42 (dk_at dksX7_keep_0 5 rfl rfl)
theorem dX7_keep_6 : decode cX7_keep 6 = .ok (.getfield 7, 3) := dk_180 0 7 (dk_at dksX7_keep_0 6 rfl rfl)
theorem dX7_keep_9 : decode cX7_keep 9 = .ok (.aload_n 0, 1) := dk_42 (dk_at dksX7_keep_0 9 rfl rfl)
theorem dX7_keep_10 : decode cX7_keep 10 = .ok (.getfield 16, 3) := dk_180 0 16 (dk_at dksX7_keep_0 10 rfl rfl)
theorem dX7_keep_13 : decode cX7_keep 13 = .ok (.invokestatic 317, 3) := dk_184 1 61 (dk_at dksX7_keep_0 13 rfl rfl)
theorem dX7_keep_16 : decode cX7_keep 16 = .ok (.aload_n 0, 1) := dk_42 (dk_at dksX7_keep_0 16 rfl rfl)
theorem dX7_keep_17 : decode cX7_keep 17 = .ok (.invokevirtual 321, 3) := dk_182 1 65 (dk_at dksX7_keep_0 17 rfl rfl)
theorem dX7_keep_20 : decode cX7_keep 20 = .ok (.ireturn, 1) := dk_172 (dk_at dksX7_keep_0 20 rfl rfl)
abbrev cX7_undo : ByteArray := prog_21_method_107_code
def yX7_undo : MethodName := ⟨RX7, "undo", "()Z"⟩
def dkwX7_undo_0 : List UInt8 := [42, 180, 1, 152, 154, 0, 5, 3, 172, 42, 180, 0, 16, 42, 180, 0, 7, 184, 1, 61, 4, 172]
abbrev dktX7_undo_0 : List UInt8 := dkwX7_undo_0 ++ []
theorem dksX7_undo_0 : cX7_undo.data.toList.drop 0 = dktX7_undo_0 := by decide +kernel
theorem dX7_undo_0 : decode cX7_undo 0 = .ok (.aload_n 0, 1) := dk_42 (dk_at dksX7_undo_0 0 rfl rfl)
theorem dX7_undo_1 : decode cX7_undo 1 = .ok (.getfield 408, 3) := dk_180 1 152 (dk_at dksX7_undo_0 1 rfl rfl)
theorem dX7_undo_4 : decode cX7_undo 4 = .ok (.ifCond .ne 5, 3) := dk_154 0 5 (dk_at dksX7_undo_0 4 rfl rfl)
theorem dX7_undo_7 : decode cX7_undo 7 = .ok (.iconst 0, 1) := dk_3 (dk_at dksX7_undo_0 7 rfl rfl)
theorem dX7_undo_8 : decode cX7_undo 8 = .ok (.ireturn, 1) := dk_172 (dk_at dksX7_undo_0 8 rfl rfl)
theorem dX7_undo_9 : decode cX7_undo 9 = .ok (.aload_n 0, 1) := dk_42 (dk_at dksX7_undo_0 9 rfl rfl)
theorem dX7_undo_10 : decode cX7_undo 10 = .ok (.getfield 16, 3) := dk_180 0 16 (dk_at dksX7_undo_0 10 rfl rfl)
theorem dX7_undo_13 : decode cX7_undo 13 = .ok (.aload_n 0, 1) := dk_42 (dk_at dksX7_undo_0 13 rfl rfl)
theorem dX7_undo_14 : decode cX7_undo 14 = .ok (.getfield 7, 3) := dk_180 0 7 (dk_at dksX7_undo_0 14 rfl rfl)
theorem dX7_undo_17 : decode cX7_undo 17 = .ok (.invokestatic 317, 3) := dk_184 1 61 (dk_at dksX7_undo_0 17 rfl rfl)
theorem dX7_undo_20 : decode cX7_undo 20 = .ok (.iconst 1, 1) := dk_4 (dk_at dksX7_undo_0 20 rfl rfl)
theorem dX7_undo_21 : decode cX7_undo 21 = .ok (.ireturn, 1) := dk_172 (dk_at dksX7_undo_0 21 rfl rfl)
abbrev cX7_check : ByteArray := prog_21_method_108_code
def yX7_check : MethodName := ⟨RX7, "check", "(II)I"⟩
def dkwX7_check_3 : List UInt8 := [2, 172]
abbrev dktX7_check_3 : List UInt8 := dkwX7_check_3 ++ []
def dkwX7_check_2 : List UInt8 := [17, 0, 255, 126, 42, 27, 29, 182, 0, 236, 16, 9, 96, 159, 0, 5, 29, 172, 132, 3, 1, 167, 255, 224]
abbrev dktX7_check_2 : List UInt8 := dkwX7_check_2 ++ dktX7_check_3
def dkwX7_check_1 : List UInt8 := [164, 0, 6, 16, 254, 172, 42, 3, 181, 0, 126, 3, 62, 29, 28, 162, 0, 33, 42, 180, 0, 19, 29, 51]
abbrev dktX7_check_1 : List UInt8 := dkwX7_check_1 ++ dktX7_check_2
def dkwX7_check_0 : List UInt8 := [27, 184, 0, 97, 153, 0, 21, 28, 3, 16, 8, 184, 0, 111, 153, 0, 11, 28, 42, 180, 0, 126]
abbrev dktX7_check_0 : List UInt8 := dkwX7_check_0 ++ dktX7_check_1
theorem dksX7_check_0 : cX7_check.data.toList.drop 0 = dktX7_check_0 := by decide +kernel
theorem dksX7_check_1 : cX7_check.data.toList.drop 22 = dktX7_check_1 := dk_seg dksX7_check_0 22 rfl rfl
theorem dksX7_check_2 : cX7_check.data.toList.drop 46 = dktX7_check_2 := dk_seg dksX7_check_1 24 rfl rfl
theorem dksX7_check_3 : cX7_check.data.toList.drop 70 = dktX7_check_3 := dk_seg dksX7_check_2 24 rfl rfl
theorem dX7_check_0 : decode cX7_check 0 = .ok (.iload_n 1, 1) := dk_27 (dk_at dksX7_check_0 0 rfl rfl)
theorem dX7_check_1 : decode cX7_check 1 = .ok (.invokestatic 97, 3) := dk_184 0 97 (dk_at dksX7_check_0 1 rfl rfl)
theorem dX7_check_4 : decode cX7_check 4 = .ok (.ifCond .eq 21, 3) := dk_153 0 21 (dk_at dksX7_check_0 4 rfl rfl)
theorem dX7_check_7 : decode cX7_check 7 = .ok (.iload_n 2, 1) := dk_28 (dk_at dksX7_check_0 7 rfl rfl)
theorem dX7_check_8 : decode cX7_check 8 = .ok (.iconst 0, 1) := dk_3 (dk_at dksX7_check_0 8 rfl rfl)
theorem dX7_check_9 : decode cX7_check 9 = .ok (.bipush 8, 2) := dk_16 8 (dk_at dksX7_check_0 9 rfl rfl)
theorem dX7_check_11 : decode cX7_check 11 = .ok (.invokestatic 111, 3) := dk_184 0 111 (dk_at dksX7_check_0 11 rfl rfl)
theorem dX7_check_14 : decode cX7_check 14 = .ok (.ifCond .eq 11, 3) := dk_153 0 11 (dk_at dksX7_check_0 14 rfl rfl)
theorem dX7_check_17 : decode cX7_check 17 = .ok (.iload_n 2, 1) := dk_28 (dk_at dksX7_check_0 17 rfl rfl)
theorem dX7_check_18 : decode cX7_check 18 = .ok (.aload_n 0, 1) := dk_42 (dk_at dksX7_check_0 18 rfl rfl)
theorem dX7_check_19 : decode cX7_check 19 = .ok (.getfield 126, 3) := dk_180 0 126 (dk_at dksX7_check_0 19 rfl rfl)
theorem dX7_check_22 : decode cX7_check 22 = .ok (.if_icmp .le 6, 3) := dk_164 0 6 (dk_at dksX7_check_1 0 rfl rfl)
theorem dX7_check_25 : decode cX7_check 25 = .ok (.bipush (-2), 2) := dk_16 254 (dk_at dksX7_check_1 3 rfl rfl)
theorem dX7_check_27 : decode cX7_check 27 = .ok (.ireturn, 1) := dk_172 (dk_at dksX7_check_1 5 rfl rfl)
theorem dX7_check_28 : decode cX7_check 28 = .ok (.aload_n 0, 1) := dk_42 (dk_at dksX7_check_1 6 rfl rfl)
theorem dX7_check_29 : decode cX7_check 29 = .ok (.iconst 0, 1) := dk_3 (dk_at dksX7_check_1 7 rfl rfl)
theorem dX7_check_30 : decode cX7_check 30 = .ok (.putfield 126, 3) := dk_181 0 126 (dk_at dksX7_check_1 8 rfl rfl)
theorem dX7_check_33 : decode cX7_check 33 = .ok (.iconst 0, 1) := dk_3 (dk_at dksX7_check_1 11 rfl rfl)
theorem dX7_check_34 : decode cX7_check 34 = .ok (.istore_n 3, 1) := dk_62 (dk_at dksX7_check_1 12 rfl rfl)
theorem dX7_check_35 : decode cX7_check 35 = .ok (.iload_n 3, 1) := dk_29 (dk_at dksX7_check_1 13 rfl rfl)
theorem dX7_check_36 : decode cX7_check 36 = .ok (.iload_n 2, 1) := dk_28 (dk_at dksX7_check_1 14 rfl rfl)
theorem dX7_check_37 : decode cX7_check 37 = .ok (.if_icmp .ge 33, 3) := dk_162 0 33 (dk_at dksX7_check_1 15 rfl rfl)
theorem dX7_check_40 : decode cX7_check 40 = .ok (.aload_n 0, 1) := dk_42 (dk_at dksX7_check_1 18 rfl rfl)
theorem dX7_check_41 : decode cX7_check 41 = .ok (.getfield 19, 3) := dk_180 0 19 (dk_at dksX7_check_1 19 rfl rfl)
theorem dX7_check_44 : decode cX7_check 44 = .ok (.iload_n 3, 1) := dk_29 (dk_at dksX7_check_1 22 rfl rfl)
theorem dX7_check_45 : decode cX7_check 45 = .ok (.baload, 1) := dk_51 (dk_at dksX7_check_1 23 rfl rfl)
theorem dX7_check_46 : decode cX7_check 46 = .ok (.sipush 255, 3) := dk_17 0 255 (dk_at dksX7_check_2 0 rfl rfl)
theorem dX7_check_49 : decode cX7_check 49 = .ok (.iand, 1) := dk_126 (dk_at dksX7_check_2 3 rfl rfl)
theorem dX7_check_50 : decode cX7_check 50 = .ok (.aload_n 0, 1) := dk_42 (dk_at dksX7_check_2 4 rfl rfl)
theorem dX7_check_51 : decode cX7_check 51 = .ok (.iload_n 1, 1) := dk_27 (dk_at dksX7_check_2 5 rfl rfl)
theorem dX7_check_52 : decode cX7_check 52 = .ok (.iload_n 3, 1) := dk_29 (dk_at dksX7_check_2 6 rfl rfl)
theorem dX7_check_53 : decode cX7_check 53 = .ok (.invokevirtual 236, 3) := dk_182 0 236 (dk_at dksX7_check_2 7 rfl rfl)
theorem dX7_check_56 : decode cX7_check 56 = .ok (.bipush 9, 2) := dk_16 9 (dk_at dksX7_check_2 10 rfl rfl)
theorem dX7_check_58 : decode cX7_check 58 = .ok (.iadd, 1) := dk_96 (dk_at dksX7_check_2 12 rfl rfl)
theorem dX7_check_59 : decode cX7_check 59 = .ok (.if_icmp .eq 5, 3) := dk_159 0 5 (dk_at dksX7_check_2 13 rfl rfl)
theorem dX7_check_62 : decode cX7_check 62 = .ok (.iload_n 3, 1) := dk_29 (dk_at dksX7_check_2 16 rfl rfl)
theorem dX7_check_63 : decode cX7_check 63 = .ok (.ireturn, 1) := dk_172 (dk_at dksX7_check_2 17 rfl rfl)
theorem dX7_check_64 : decode cX7_check 64 = .ok (.iinc 3 1, 3) := dk_132 3 1 (dk_at dksX7_check_2 18 rfl rfl)
theorem dX7_check_67 : decode cX7_check 67 = .ok (.goto (-32), 3) := dk_167 255 224 (dk_at dksX7_check_2 21 rfl rfl)
theorem dX7_check_70 : decode cX7_check 70 = .ok (.iconst (-1), 1) := dk_2 (dk_at dksX7_check_3 0 rfl rfl)
theorem dX7_check_71 : decode cX7_check 71 = .ok (.ireturn, 1) := dk_172 (dk_at dksX7_check_3 1 rfl rfl)
abbrev cX7_count : ByteArray := prog_21_method_109_code
def yX7_count : MethodName := ⟨RX7, "count", "(I)I"⟩
def dkwX7_count_6 : List UInt8 := [29, 120, 128, 61, 132, 3, 1, 167, 255, 217, 28, 172]
abbrev dktX7_count_6 : List UInt8 := dkwX7_count_6 ++ []
def dkwX7_count_5 : List UInt8 := [182, 0, 108, 153, 0, 25, 42, 180, 0, 7, 16, 12, 29, 96, 46, 27, 16, 10, 100, 160, 0, 9, 28, 4]
abbrev dktX7_count_5 : List UInt8 := dkwX7_count_5 ++ dktX7_count_6
def dkwX7_count_4 : List UInt8 := [16, 10, 16, 15, 184, 0, 111, 154, 0, 5, 2, 172, 3, 61, 3, 62, 29, 16, 12, 162, 0, 39, 42, 29]
abbrev dktX7_count_4 : List UInt8 := dkwX7_count_4 ++ dktX7_count_5
def dkwX7_count_3 : List UInt8 := [42, 182, 1, 65, 172, 42, 180, 0, 225, 172, 42, 180, 0, 126, 172, 42, 180, 0, 7, 16, 111, 46, 172, 27]
abbrev dktX7_count_3 : List UInt8 := dkwX7_count_3 ++ dktX7_count_4
def dkwX7_count_2 : List UInt8 := [42, 180, 0, 7, 16, 110, 46, 172, 42, 180, 0, 7, 16, 108, 46, 172, 42, 180, 0, 7, 16, 109, 46, 172]
abbrev dktX7_count_2 : List UInt8 := dkwX7_count_2 ++ dktX7_count_3
def dkwX7_count_1 : List UInt8 := [170, 0, 0, 0, 0, 0, 90, 0, 0, 0, 0, 0, 0, 0, 6, 0, 0, 0, 43, 0, 0, 0, 51, 0, 0, 0, 59, 0, 0, 0, 67, 0, 0, 0, 72, 0, 0, 0, 77, 0, 0, 0, 82]
abbrev dktX7_count_1 : List UInt8 := dkwX7_count_1 ++ dktX7_count_2
def dkwX7_count_0 : List UInt8 := [27]
abbrev dktX7_count_0 : List UInt8 := dkwX7_count_0 ++ dktX7_count_1
theorem dksX7_count_0 : cX7_count.data.toList.drop 0 = dktX7_count_0 := by decide +kernel
theorem dksX7_count_1 : cX7_count.data.toList.drop 1 = dktX7_count_1 := dk_seg dksX7_count_0 1 rfl rfl
theorem dksX7_count_2 : cX7_count.data.toList.drop 44 = dktX7_count_2 := dk_seg dksX7_count_1 43 rfl rfl
theorem dksX7_count_3 : cX7_count.data.toList.drop 68 = dktX7_count_3 := dk_seg dksX7_count_2 24 rfl rfl
theorem dksX7_count_4 : cX7_count.data.toList.drop 92 = dktX7_count_4 := dk_seg dksX7_count_3 24 rfl rfl
theorem dksX7_count_5 : cX7_count.data.toList.drop 116 = dktX7_count_5 := dk_seg dksX7_count_4 24 rfl rfl
theorem dksX7_count_6 : cX7_count.data.toList.drop 140 = dktX7_count_6 := dk_seg dksX7_count_5 24 rfl rfl
theorem dX7_count_0 : decode cX7_count 0 = .ok (.iload_n 1, 1) := dk_27 (dk_at dksX7_count_0 0 rfl rfl)
theorem dX7_count_1 : decode cX7_count 1 = .ok (.tableswitch 90 0 6 #[43, 51, 59, 67, 72, 77, 82], 43) := by decide +kernel
theorem dX7_count_44 : decode cX7_count 44 = .ok (.aload_n 0, 1) := dk_42 (dk_at dksX7_count_2 0 rfl rfl)
theorem dX7_count_45 : decode cX7_count 45 = .ok (.getfield 7, 3) := dk_180 0 7 (dk_at dksX7_count_2 1 rfl rfl)
theorem dX7_count_48 : decode cX7_count 48 = .ok (.bipush 110, 2) := dk_16 110 (dk_at dksX7_count_2 4 rfl rfl)
theorem dX7_count_50 : decode cX7_count 50 = .ok (.iaload, 1) := dk_46 (dk_at dksX7_count_2 6 rfl rfl)
theorem dX7_count_51 : decode cX7_count 51 = .ok (.ireturn, 1) := dk_172 (dk_at dksX7_count_2 7 rfl rfl)
theorem dX7_count_52 : decode cX7_count 52 = .ok (.aload_n 0, 1) := dk_42 (dk_at dksX7_count_2 8 rfl rfl)
theorem dX7_count_53 : decode cX7_count 53 = .ok (.getfield 7, 3) := dk_180 0 7 (dk_at dksX7_count_2 9 rfl rfl)
theorem dX7_count_56 : decode cX7_count 56 = .ok (.bipush 108, 2) := dk_16 108 (dk_at dksX7_count_2 12 rfl rfl)
theorem dX7_count_58 : decode cX7_count 58 = .ok (.iaload, 1) := dk_46 (dk_at dksX7_count_2 14 rfl rfl)
theorem dX7_count_59 : decode cX7_count 59 = .ok (.ireturn, 1) := dk_172 (dk_at dksX7_count_2 15 rfl rfl)
theorem dX7_count_60 : decode cX7_count 60 = .ok (.aload_n 0, 1) := dk_42 (dk_at dksX7_count_2 16 rfl rfl)
theorem dX7_count_61 : decode cX7_count 61 = .ok (.getfield 7, 3) := dk_180 0 7 (dk_at dksX7_count_2 17 rfl rfl)
theorem dX7_count_64 : decode cX7_count 64 = .ok (.bipush 109, 2) := dk_16 109 (dk_at dksX7_count_2 20 rfl rfl)
theorem dX7_count_66 : decode cX7_count 66 = .ok (.iaload, 1) := dk_46 (dk_at dksX7_count_2 22 rfl rfl)
theorem dX7_count_67 : decode cX7_count 67 = .ok (.ireturn, 1) := dk_172 (dk_at dksX7_count_2 23 rfl rfl)
theorem dX7_count_68 : decode cX7_count 68 = .ok (.aload_n 0, 1) := dk_42 (dk_at dksX7_count_3 0 rfl rfl)
theorem dX7_count_69 : decode cX7_count 69 = .ok (.invokevirtual 321, 3) := dk_182 1 65 (dk_at dksX7_count_3 1 rfl rfl)
theorem dX7_count_72 : decode cX7_count 72 = .ok (.ireturn, 1) := dk_172 (dk_at dksX7_count_3 4 rfl rfl)
theorem dX7_count_73 : decode cX7_count 73 = .ok (.aload_n 0, 1) := dk_42 (dk_at dksX7_count_3 5 rfl rfl)
theorem dX7_count_74 : decode cX7_count 74 = .ok (.getfield 225, 3) := dk_180 0 225 (dk_at dksX7_count_3 6 rfl rfl)
theorem dX7_count_77 : decode cX7_count 77 = .ok (.ireturn, 1) := dk_172 (dk_at dksX7_count_3 9 rfl rfl)
theorem dX7_count_78 : decode cX7_count 78 = .ok (.aload_n 0, 1) := dk_42 (dk_at dksX7_count_3 10 rfl rfl)
theorem dX7_count_79 : decode cX7_count 79 = .ok (.getfield 126, 3) := dk_180 0 126 (dk_at dksX7_count_3 11 rfl rfl)
theorem dX7_count_82 : decode cX7_count 82 = .ok (.ireturn, 1) := dk_172 (dk_at dksX7_count_3 14 rfl rfl)
theorem dX7_count_83 : decode cX7_count 83 = .ok (.aload_n 0, 1) := dk_42 (dk_at dksX7_count_3 15 rfl rfl)
theorem dX7_count_84 : decode cX7_count 84 = .ok (.getfield 7, 3) := dk_180 0 7 (dk_at dksX7_count_3 16 rfl rfl)
theorem dX7_count_87 : decode cX7_count 87 = .ok (.bipush 111, 2) := dk_16 111 (dk_at dksX7_count_3 19 rfl rfl)
theorem dX7_count_89 : decode cX7_count 89 = .ok (.iaload, 1) := dk_46 (dk_at dksX7_count_3 21 rfl rfl)
theorem dX7_count_90 : decode cX7_count 90 = .ok (.ireturn, 1) := dk_172 (dk_at dksX7_count_3 22 rfl rfl)
theorem dX7_count_91 : decode cX7_count 91 = .ok (.iload_n 1, 1) := dk_27 (dk_at dksX7_count_3 23 rfl rfl)
theorem dX7_count_92 : decode cX7_count 92 = .ok (.bipush 10, 2) := dk_16 10 (dk_at dksX7_count_4 0 rfl rfl)
theorem dX7_count_94 : decode cX7_count 94 = .ok (.bipush 15, 2) := dk_16 15 (dk_at dksX7_count_4 2 rfl rfl)
theorem dX7_count_96 : decode cX7_count 96 = .ok (.invokestatic 111, 3) := dk_184 0 111 (dk_at dksX7_count_4 4 rfl rfl)
theorem dX7_count_99 : decode cX7_count 99 = .ok (.ifCond .ne 5, 3) := dk_154 0 5 (dk_at dksX7_count_4 7 rfl rfl)
theorem dX7_count_102 : decode cX7_count 102 = .ok (.iconst (-1), 1) := dk_2 (dk_at dksX7_count_4 10 rfl rfl)
theorem dX7_count_103 : decode cX7_count 103 = .ok (.ireturn, 1) := dk_172 (dk_at dksX7_count_4 11 rfl rfl)
theorem dX7_count_104 : decode cX7_count 104 = .ok (.iconst 0, 1) := dk_3 (dk_at dksX7_count_4 12 rfl rfl)
theorem dX7_count_105 : decode cX7_count 105 = .ok (.istore_n 2, 1) := dk_61 (dk_at dksX7_count_4 13 rfl rfl)
theorem dX7_count_106 : decode cX7_count 106 = .ok (.iconst 0, 1) := dk_3 (dk_at dksX7_count_4 14 rfl rfl)
theorem dX7_count_107 : decode cX7_count 107 = .ok (.istore_n 3, 1) := dk_62 (dk_at dksX7_count_4 15 rfl rfl)
theorem dX7_count_108 : decode cX7_count 108 = .ok (.iload_n 3, 1) := dk_29 (dk_at dksX7_count_4 16 rfl rfl)
theorem dX7_count_109 : decode cX7_count 109 = .ok (.bipush 12, 2) := dk_16 12 (dk_at dksX7_count_4 17 rfl rfl)
theorem dX7_count_111 : decode cX7_count 111 = .ok (.if_icmp .ge 39, 3) := dk_162 0 39 (dk_at dksX7_count_4 19 rfl rfl)
theorem dX7_count_114 : decode cX7_count 114 = .ok (.aload_n 0, 1) := dk_42 (dk_at dksX7_count_4 22 rfl rfl)
theorem dX7_count_115 : decode cX7_count 115 = .ok (.iload_n 3, 1) := dk_29 (dk_at dksX7_count_4 23 rfl rfl)
theorem dX7_count_116 : decode cX7_count 116 = .ok (.invokevirtual 108, 3) := dk_182 0 108 (dk_at dksX7_count_5 0 rfl rfl)
theorem dX7_count_119 : decode cX7_count 119 = .ok (.ifCond .eq 25, 3) := dk_153 0 25 (dk_at dksX7_count_5 3 rfl rfl)
theorem dX7_count_122 : decode cX7_count 122 = .ok (.aload_n 0, 1) := dk_42 (dk_at dksX7_count_5 6 rfl rfl)
theorem dX7_count_123 : decode cX7_count 123 = .ok (.getfield 7, 3) := dk_180 0 7 (dk_at dksX7_count_5 7 rfl rfl)
theorem dX7_count_126 : decode cX7_count 126 = .ok (.bipush 12, 2) := dk_16 12 (dk_at dksX7_count_5 10 rfl rfl)
theorem dX7_count_128 : decode cX7_count 128 = .ok (.iload_n 3, 1) := dk_29 (dk_at dksX7_count_5 12 rfl rfl)
theorem dX7_count_129 : decode cX7_count 129 = .ok (.iadd, 1) := dk_96 (dk_at dksX7_count_5 13 rfl rfl)
theorem dX7_count_130 : decode cX7_count 130 = .ok (.iaload, 1) := dk_46 (dk_at dksX7_count_5 14 rfl rfl)
theorem dX7_count_131 : decode cX7_count 131 = .ok (.iload_n 1, 1) := dk_27 (dk_at dksX7_count_5 15 rfl rfl)
theorem dX7_count_132 : decode cX7_count 132 = .ok (.bipush 10, 2) := dk_16 10 (dk_at dksX7_count_5 16 rfl rfl)
theorem dX7_count_134 : decode cX7_count 134 = .ok (.isub, 1) := dk_100 (dk_at dksX7_count_5 18 rfl rfl)
theorem dX7_count_135 : decode cX7_count 135 = .ok (.if_icmp .ne 9, 3) := dk_160 0 9 (dk_at dksX7_count_5 19 rfl rfl)
theorem dX7_count_138 : decode cX7_count 138 = .ok (.iload_n 2, 1) := dk_28 (dk_at dksX7_count_5 22 rfl rfl)
theorem dX7_count_139 : decode cX7_count 139 = .ok (.iconst 1, 1) := dk_4 (dk_at dksX7_count_5 23 rfl rfl)
theorem dX7_count_140 : decode cX7_count 140 = .ok (.iload_n 3, 1) := dk_29 (dk_at dksX7_count_6 0 rfl rfl)
theorem dX7_count_141 : decode cX7_count 141 = .ok (.ishl, 1) := dk_120 (dk_at dksX7_count_6 1 rfl rfl)
theorem dX7_count_142 : decode cX7_count 142 = .ok (.ior, 1) := dk_128 (dk_at dksX7_count_6 2 rfl rfl)
theorem dX7_count_143 : decode cX7_count 143 = .ok (.istore_n 2, 1) := dk_61 (dk_at dksX7_count_6 3 rfl rfl)
theorem dX7_count_144 : decode cX7_count 144 = .ok (.iinc 3 1, 3) := dk_132 3 1 (dk_at dksX7_count_6 4 rfl rfl)
theorem dX7_count_147 : decode cX7_count 147 = .ok (.goto (-39), 3) := dk_167 255 217 (dk_at dksX7_count_6 7 rfl rfl)
theorem dX7_count_150 : decode cX7_count 150 = .ok (.iload_n 2, 1) := dk_28 (dk_at dksX7_count_6 10 rfl rfl)
theorem dX7_count_151 : decode cX7_count 151 = .ok (.ireturn, 1) := dk_172 (dk_at dksX7_count_6 11 rfl rfl)
theorem q115 : (Jvm.Cond.initialized "PuzzleWedModel") ∈ lw_all := lw_g (lw_at lw_m1 8 rfl) rfl
theorem q1241 : (Jvm.Cond.instantiable "PuzzleWedModel" (47 : Nat)) ∈ lw_all := lw_g (lw_at lw_m5 174 rfl) rfl
theorem q1243 : (Jvm.Cond.instanceMethod ({ cls := "PuzzleWedModel", name := "<init>", desc := "()V" } : Jvm.MethodName)) ∈ lw_all := lw_g (lw_at lw_m5 176 rfl) rfl
theorem q1244 : (Jvm.Cond.code ({ cls := "PuzzleWedModel", name := "<init>", desc := "()V" } : Jvm.MethodName) prog_21_method_1_code (2 : Nat) (Option.none : Option Jvm.ClassFile.FieldType)) ∈ lw_all := lw_g (lw_at lw_m5 177 rfl) rfl
theorem q1245 : (Jvm.Cond.methodLink "PuzzleWedModel" (1 : Nat) ({ cls := "java/lang/Object", name := "<init>", desc := "()V" } : Jvm.MethodName)) ∈ lw_all := lw_g (lw_at lw_m5 178 rfl) rfl
theorem q1246 : (Jvm.Cond.constant "PuzzleWedModel" (77 : Nat) (53248 : Int32)) ∈ lw_all := lw_g (lw_at lw_m5 179 rfl) rfl
theorem q1247 : (Jvm.Cond.constant "PuzzleWedModel" (90 : Nat) (33489 : Int32)) ∈ lw_all := lw_g (lw_at lw_m5 180 rfl) rfl
theorem q1248 : (Jvm.Cond.fieldLink "PuzzleWedModel" (7 : Nat) "PuzzleWedModel" "now" "[I") ∈ lw_all := lw_g (lw_at lw_m5 181 rfl) rfl
theorem q1249 : (Jvm.Cond.fieldLink "PuzzleWedModel" (13 : Nat) "PuzzleWedModel" "aside" "[I") ∈ lw_all := lw_g (lw_at lw_m5 182 rfl) rfl
theorem q1250 : (Jvm.Cond.fieldLink "PuzzleWedModel" (16 : Nat) "PuzzleWedModel" "kept" "[I") ∈ lw_all := lw_g (lw_at lw_m5 183 rfl) rfl
theorem q1251 : (Jvm.Cond.fieldLink "PuzzleWedModel" (19 : Nat) "PuzzleWedModel" "tape" "[B") ∈ lw_all := lw_g (lw_at lw_m5 184 rfl) rfl
theorem q1252 : (Jvm.Cond.fieldLink "PuzzleWedModel" (126 : Nat) "PuzzleWedModel" "taped" "I") ∈ lw_all := lw_g (lw_at lw_m5 185 rfl) rfl
theorem q1253 : (Jvm.Cond.fieldLink "PuzzleWedModel" (133 : Nat) "PuzzleWedModel" "place0" "I") ∈ lw_all := lw_g (lw_at lw_m5 186 rfl) rfl
theorem q1254 : (Jvm.Cond.fieldLink "PuzzleWedModel" (136 : Nat) "PuzzleWedModel" "length0" "I") ∈ lw_all := lw_g (lw_at lw_m5 187 rfl) rfl
theorem q1255 : (Jvm.Cond.fieldLink "PuzzleWedModel" (143 : Nat) "PuzzleWedModel" "fault" "I") ∈ lw_all := lw_g (lw_at lw_m5 188 rfl) rfl
theorem q1256 : (Jvm.Cond.fieldLink "PuzzleWedModel" (149 : Nat) "PuzzleWedModel" "number0" "I") ∈ lw_all := lw_g (lw_at lw_m5 189 rfl) rfl
theorem q1257 : (Jvm.Cond.fieldLink "PuzzleWedModel" (160 : Nat) "PuzzleWedModel" "open" "I") ∈ lw_all := lw_g (lw_at lw_m5 190 rfl) rfl
theorem q1258 : (Jvm.Cond.fieldLink "PuzzleWedModel" (156 : Nat) "PuzzleWedModel" "codeMany" "I") ∈ lw_all := lw_g (lw_at lw_m5 191 rfl) rfl
theorem q1259 : (Jvm.Cond.fieldLink "PuzzleWedModel" (163 : Nat) "PuzzleWedModel" "waiting" "I") ∈ lw_all := lw_g (lw_at lw_m5 192 rfl) rfl
theorem q1260 : (Jvm.Cond.fieldLink "PuzzleWedModel" (213 : Nat) "PuzzleWedModel" "saidMany" "I") ∈ lw_all := lw_g (lw_at lw_m5 193 rfl) rfl
theorem q1261 : (Jvm.Cond.fieldLink "PuzzleWedModel" (225 : Nat) "PuzzleWedModel" "clauses" "I") ∈ lw_all := lw_g (lw_at lw_m5 194 rfl) rfl
theorem q1262 : (Jvm.Cond.fieldLink "PuzzleWedModel" (23 : Nat) "PuzzleWedModel" "said" "[I") ∈ lw_all := lw_g (lw_at lw_m5 195 rfl) rfl
theorem q1263 : (Jvm.Cond.fieldLink "PuzzleWedModel" (26 : Nat) "PuzzleWedModel" "waitsAt" "[I") ∈ lw_all := lw_g (lw_at lw_m5 196 rfl) rfl
theorem q1264 : (Jvm.Cond.fieldLink "PuzzleWedModel" (29 : Nat) "PuzzleWedModel" "saidLetter" "[I") ∈ lw_all := lw_g (lw_at lw_m5 197 rfl) rfl
theorem q1265 : (Jvm.Cond.fieldLink "PuzzleWedModel" (32 : Nat) "PuzzleWedModel" "saidFrom" "[I") ∈ lw_all := lw_g (lw_at lw_m5 198 rfl) rfl
theorem q1266 : (Jvm.Cond.fieldLink "PuzzleWedModel" (35 : Nat) "PuzzleWedModel" "saidHalf" "[I") ∈ lw_all := lw_g (lw_at lw_m5 199 rfl) rfl
theorem q1267 : (Jvm.Cond.fieldLink "PuzzleWedModel" (38 : Nat) "PuzzleWedModel" "saidTo" "[I") ∈ lw_all := lw_g (lw_at lw_m5 200 rfl) rfl
theorem q1268 : (Jvm.Cond.fieldLink "PuzzleWedModel" (41 : Nat) "PuzzleWedModel" "codes" "[I") ∈ lw_all := lw_g (lw_at lw_m5 201 rfl) rfl
theorem q1269 : (Jvm.Cond.fieldLink "PuzzleWedModel" (44 : Nat) "PuzzleWedModel" "clauseOf" "[I") ∈ lw_all := lw_g (lw_at lw_m5 202 rfl) rfl
theorem q1270 : (Jvm.Cond.fieldLink "PuzzleWedModel" (47 : Nat) "PuzzleWedModel" "codeFrom" "[I") ∈ lw_all := lw_g (lw_at lw_m5 203 rfl) rfl
theorem q1271 : (Jvm.Cond.fieldLink "PuzzleWedModel" (50 : Nat) "PuzzleWedModel" "codeHalf" "[I") ∈ lw_all := lw_g (lw_at lw_m5 204 rfl) rfl
theorem q1272 : (Jvm.Cond.fieldLink "PuzzleWedModel" (53 : Nat) "PuzzleWedModel" "codeTo" "[I") ∈ lw_all := lw_g (lw_at lw_m5 205 rfl) rfl
theorem q1273 : (Jvm.Cond.fieldLink "PuzzleWedModel" (56 : Nat) "PuzzleWedModel" "stack" "[I") ∈ lw_all := lw_g (lw_at lw_m5 206 rfl) rfl
theorem q1274 : (Jvm.Cond.fieldLink "PuzzleWedModel" (59 : Nat) "PuzzleWedModel" "facts" "[I") ∈ lw_all := lw_g (lw_at lw_m5 207 rfl) rfl
theorem q1275 : (Jvm.Cond.fieldLink "PuzzleWedModel" (62 : Nat) "PuzzleWedModel" "newHeight" "[I") ∈ lw_all := lw_g (lw_at lw_m5 208 rfl) rfl
theorem q1276 : (Jvm.Cond.fieldLink "PuzzleWedModel" (65 : Nat) "PuzzleWedModel" "newStop" "[I") ∈ lw_all := lw_g (lw_at lw_m5 209 rfl) rfl
theorem q1277 : (Jvm.Cond.fieldLink "PuzzleWedModel" (268 : Nat) "PuzzleWedModel" "newMany" "I") ∈ lw_all := lw_g (lw_at lw_m5 210 rfl) rfl
theorem q1278 : (Jvm.Cond.fieldLink "PuzzleWedModel" (274 : Nat) "PuzzleWedModel" "stops" "I") ∈ lw_all := lw_g (lw_at lw_m5 211 rfl) rfl
theorem q1279 : (Jvm.Cond.fieldLink "PuzzleWedModel" (289 : Nat) "PuzzleWedModel" "wedNow" "I") ∈ lw_all := lw_g (lw_at lw_m5 212 rfl) rfl
theorem q1280 : (Jvm.Cond.fieldLink "PuzzleWedModel" (280 : Nat) "PuzzleWedModel" "triesNow" "I") ∈ lw_all := lw_g (lw_at lw_m5 213 rfl) rfl
theorem q1281 : (Jvm.Cond.fieldLink "PuzzleWedModel" (302 : Nat) "PuzzleWedModel" "partsNow" "I") ∈ lw_all := lw_g (lw_at lw_m5 214 rfl) rfl
theorem q1282 : (Jvm.Cond.fieldLink "PuzzleWedModel" (68 : Nat) "PuzzleWedModel" "fitOf" "[I") ∈ lw_all := lw_g (lw_at lw_m5 215 rfl) rfl
theorem q1283 : (Jvm.Cond.fieldLink "PuzzleWedModel" (71 : Nat) "PuzzleWedModel" "slackNow" "[I") ∈ lw_all := lw_g (lw_at lw_m5 216 rfl) rfl
theorem q1284 : (Jvm.Cond.fieldLink "PuzzleWedModel" (74 : Nat) "PuzzleWedModel" "likeOf" "[I") ∈ lw_all := lw_g (lw_at lw_m5 217 rfl) rfl
theorem q1285 : (Jvm.Cond.fieldLink "PuzzleWedModel" (78 : Nat) "PuzzleWedModel" "bestOf" "[I") ∈ lw_all := lw_g (lw_at lw_m5 218 rfl) rfl
theorem q1286 : (Jvm.Cond.fieldLink "PuzzleWedModel" (81 : Nat) "PuzzleWedModel" "askedBy" "[I") ∈ lw_all := lw_g (lw_at lw_m5 219 rfl) rfl
theorem q1287 : (Jvm.Cond.fieldLink "PuzzleWedModel" (84 : Nat) "PuzzleWedModel" "getOf" "[I") ∈ lw_all := lw_g (lw_at lw_m5 220 rfl) rfl
theorem q1288 : (Jvm.Cond.fieldLink "PuzzleWedModel" (87 : Nat) "PuzzleWedModel" "rowNow" "[I") ∈ lw_all := lw_g (lw_at lw_m5 221 rfl) rfl
theorem q1289 : (Jvm.Cond.fieldLink "PuzzleWedModel" (91 : Nat) "PuzzleWedModel" "workOf" "[I") ∈ lw_all := lw_g (lw_at lw_m5 222 rfl) rfl
theorem q1290 : (Jvm.Cond.fieldLink "PuzzleWedModel" (94 : Nat) "PuzzleWedModel" "sanded" "[I") ∈ lw_all := lw_g (lw_at lw_m5 223 rfl) rfl
theorem q1291 : (Jvm.Cond.fieldLink "PuzzleWedModel" (379 : Nat) "PuzzleWedModel" "sandPiece" "I") ∈ lw_all := lw_g (lw_at lw_m5 224 rfl) rfl
theorem q1292 : (Jvm.Cond.fieldLink "PuzzleWedModel" (370 : Nat) "PuzzleWedModel" "sandA" "I") ∈ lw_all := lw_g (lw_at lw_m5 225 rfl) rfl
theorem q1293 : (Jvm.Cond.fieldLink "PuzzleWedModel" (373 : Nat) "PuzzleWedModel" "sandB" "I") ∈ lw_all := lw_g (lw_at lw_m5 226 rfl) rfl
theorem q1294 : (Jvm.Cond.fieldLink "PuzzleWedModel" (408 : Nat) "PuzzleWedModel" "isKept" "Z") ∈ lw_all := lw_g (lw_at lw_m5 227 rfl) rfl
theorem q1295 : (Jvm.Cond.laysFinal "PuzzleWedModel" "PuzzleWedModel" "now" "[I") ∈ lw_all := lw_g (lw_at lw_m5 228 rfl) rfl
theorem q1296 : (Jvm.Cond.soleField "PuzzleWedModel" "now") ∈ lw_all := lw_g (lw_at lw_m5 229 rfl) rfl
theorem q1297 : (Jvm.Cond.laysFinal "PuzzleWedModel" "PuzzleWedModel" "aside" "[I") ∈ lw_all := lw_g (lw_at lw_m5 230 rfl) rfl
theorem q1298 : (Jvm.Cond.soleField "PuzzleWedModel" "aside") ∈ lw_all := lw_g (lw_at lw_m5 231 rfl) rfl
theorem q1299 : (Jvm.Cond.laysFinal "PuzzleWedModel" "PuzzleWedModel" "kept" "[I") ∈ lw_all := lw_g (lw_at lw_m5 232 rfl) rfl
theorem q1300 : (Jvm.Cond.soleField "PuzzleWedModel" "kept") ∈ lw_all := lw_g (lw_at lw_m5 233 rfl) rfl
theorem q1301 : (Jvm.Cond.laysFinal "PuzzleWedModel" "PuzzleWedModel" "tape" "[B") ∈ lw_all := lw_g (lw_at lw_m5 234 rfl) rfl
theorem q1302 : (Jvm.Cond.soleField "PuzzleWedModel" "tape") ∈ lw_all := lw_g (lw_at lw_m5 235 rfl) rfl
theorem q1303 : (Jvm.Cond.lays "PuzzleWedModel" "PuzzleWedModel" "taped" "I") ∈ lw_all := lw_g (lw_at lw_m5 236 rfl) rfl
theorem q1304 : (Jvm.Cond.soleField "PuzzleWedModel" "taped") ∈ lw_all := lw_g (lw_at lw_m5 237 rfl) rfl
theorem q1305 : (Jvm.Cond.lays "PuzzleWedModel" "PuzzleWedModel" "place0" "I") ∈ lw_all := lw_g (lw_at lw_m5 238 rfl) rfl
theorem q1306 : (Jvm.Cond.soleField "PuzzleWedModel" "place0") ∈ lw_all := lw_g (lw_at lw_m5 239 rfl) rfl
theorem q1307 : (Jvm.Cond.lays "PuzzleWedModel" "PuzzleWedModel" "length0" "I") ∈ lw_all := lw_g (lw_at lw_m6 0 rfl) rfl
theorem q1308 : (Jvm.Cond.soleField "PuzzleWedModel" "length0") ∈ lw_all := lw_g (lw_at lw_m6 1 rfl) rfl
theorem q1309 : (Jvm.Cond.lays "PuzzleWedModel" "PuzzleWedModel" "fault" "I") ∈ lw_all := lw_g (lw_at lw_m6 2 rfl) rfl
theorem q1310 : (Jvm.Cond.soleField "PuzzleWedModel" "fault") ∈ lw_all := lw_g (lw_at lw_m6 3 rfl) rfl
theorem q1311 : (Jvm.Cond.lays "PuzzleWedModel" "PuzzleWedModel" "number0" "I") ∈ lw_all := lw_g (lw_at lw_m6 4 rfl) rfl
theorem q1312 : (Jvm.Cond.soleField "PuzzleWedModel" "number0") ∈ lw_all := lw_g (lw_at lw_m6 5 rfl) rfl
theorem q1313 : (Jvm.Cond.lays "PuzzleWedModel" "PuzzleWedModel" "open" "I") ∈ lw_all := lw_g (lw_at lw_m6 6 rfl) rfl
theorem q1314 : (Jvm.Cond.soleField "PuzzleWedModel" "open") ∈ lw_all := lw_g (lw_at lw_m6 7 rfl) rfl
theorem q1315 : (Jvm.Cond.lays "PuzzleWedModel" "PuzzleWedModel" "codeMany" "I") ∈ lw_all := lw_g (lw_at lw_m6 8 rfl) rfl
theorem q1316 : (Jvm.Cond.soleField "PuzzleWedModel" "codeMany") ∈ lw_all := lw_g (lw_at lw_m6 9 rfl) rfl
theorem q1317 : (Jvm.Cond.lays "PuzzleWedModel" "PuzzleWedModel" "waiting" "I") ∈ lw_all := lw_g (lw_at lw_m6 10 rfl) rfl
theorem q1318 : (Jvm.Cond.soleField "PuzzleWedModel" "waiting") ∈ lw_all := lw_g (lw_at lw_m6 11 rfl) rfl
theorem q1319 : (Jvm.Cond.lays "PuzzleWedModel" "PuzzleWedModel" "saidMany" "I") ∈ lw_all := lw_g (lw_at lw_m6 12 rfl) rfl
theorem q1320 : (Jvm.Cond.soleField "PuzzleWedModel" "saidMany") ∈ lw_all := lw_g (lw_at lw_m6 13 rfl) rfl
theorem q1321 : (Jvm.Cond.lays "PuzzleWedModel" "PuzzleWedModel" "clauses" "I") ∈ lw_all := lw_g (lw_at lw_m6 14 rfl) rfl
theorem q1322 : (Jvm.Cond.soleField "PuzzleWedModel" "clauses") ∈ lw_all := lw_g (lw_at lw_m6 15 rfl) rfl
theorem q1323 : (Jvm.Cond.laysFinal "PuzzleWedModel" "PuzzleWedModel" "said" "[I") ∈ lw_all := lw_g (lw_at lw_m6 16 rfl) rfl
theorem q1324 : (Jvm.Cond.soleField "PuzzleWedModel" "said") ∈ lw_all := lw_g (lw_at lw_m6 17 rfl) rfl
theorem q1325 : (Jvm.Cond.laysFinal "PuzzleWedModel" "PuzzleWedModel" "waitsAt" "[I") ∈ lw_all := lw_g (lw_at lw_m6 18 rfl) rfl
theorem q1326 : (Jvm.Cond.soleField "PuzzleWedModel" "waitsAt") ∈ lw_all := lw_g (lw_at lw_m6 19 rfl) rfl
theorem q1327 : (Jvm.Cond.laysFinal "PuzzleWedModel" "PuzzleWedModel" "saidLetter" "[I") ∈ lw_all := lw_g (lw_at lw_m6 20 rfl) rfl
theorem q1328 : (Jvm.Cond.soleField "PuzzleWedModel" "saidLetter") ∈ lw_all := lw_g (lw_at lw_m6 21 rfl) rfl
theorem q1329 : (Jvm.Cond.laysFinal "PuzzleWedModel" "PuzzleWedModel" "saidFrom" "[I") ∈ lw_all := lw_g (lw_at lw_m6 22 rfl) rfl
theorem q1330 : (Jvm.Cond.soleField "PuzzleWedModel" "saidFrom") ∈ lw_all := lw_g (lw_at lw_m6 23 rfl) rfl
theorem q1331 : (Jvm.Cond.laysFinal "PuzzleWedModel" "PuzzleWedModel" "saidHalf" "[I") ∈ lw_all := lw_g (lw_at lw_m6 24 rfl) rfl
theorem q1332 : (Jvm.Cond.soleField "PuzzleWedModel" "saidHalf") ∈ lw_all := lw_g (lw_at lw_m6 25 rfl) rfl
theorem q1333 : (Jvm.Cond.laysFinal "PuzzleWedModel" "PuzzleWedModel" "saidTo" "[I") ∈ lw_all := lw_g (lw_at lw_m6 26 rfl) rfl
theorem q1334 : (Jvm.Cond.soleField "PuzzleWedModel" "saidTo") ∈ lw_all := lw_g (lw_at lw_m6 27 rfl) rfl
theorem q1335 : (Jvm.Cond.laysFinal "PuzzleWedModel" "PuzzleWedModel" "codes" "[I") ∈ lw_all := lw_g (lw_at lw_m6 28 rfl) rfl
theorem q1336 : (Jvm.Cond.soleField "PuzzleWedModel" "codes") ∈ lw_all := lw_g (lw_at lw_m6 29 rfl) rfl
theorem q1337 : (Jvm.Cond.laysFinal "PuzzleWedModel" "PuzzleWedModel" "clauseOf" "[I") ∈ lw_all := lw_g (lw_at lw_m6 30 rfl) rfl
theorem q1338 : (Jvm.Cond.soleField "PuzzleWedModel" "clauseOf") ∈ lw_all := lw_g (lw_at lw_m6 31 rfl) rfl
theorem q1339 : (Jvm.Cond.laysFinal "PuzzleWedModel" "PuzzleWedModel" "codeFrom" "[I") ∈ lw_all := lw_g (lw_at lw_m6 32 rfl) rfl
theorem q1340 : (Jvm.Cond.soleField "PuzzleWedModel" "codeFrom") ∈ lw_all := lw_g (lw_at lw_m6 33 rfl) rfl
theorem q1341 : (Jvm.Cond.laysFinal "PuzzleWedModel" "PuzzleWedModel" "codeHalf" "[I") ∈ lw_all := lw_g (lw_at lw_m6 34 rfl) rfl
theorem q1342 : (Jvm.Cond.soleField "PuzzleWedModel" "codeHalf") ∈ lw_all := lw_g (lw_at lw_m6 35 rfl) rfl
theorem q1343 : (Jvm.Cond.laysFinal "PuzzleWedModel" "PuzzleWedModel" "codeTo" "[I") ∈ lw_all := lw_g (lw_at lw_m6 36 rfl) rfl
theorem q1344 : (Jvm.Cond.soleField "PuzzleWedModel" "codeTo") ∈ lw_all := lw_g (lw_at lw_m6 37 rfl) rfl
theorem q1345 : (Jvm.Cond.laysFinal "PuzzleWedModel" "PuzzleWedModel" "stack" "[I") ∈ lw_all := lw_g (lw_at lw_m6 38 rfl) rfl
theorem q1346 : (Jvm.Cond.soleField "PuzzleWedModel" "stack") ∈ lw_all := lw_g (lw_at lw_m6 39 rfl) rfl
theorem q1347 : (Jvm.Cond.laysFinal "PuzzleWedModel" "PuzzleWedModel" "facts" "[I") ∈ lw_all := lw_g (lw_at lw_m6 40 rfl) rfl
theorem q1348 : (Jvm.Cond.soleField "PuzzleWedModel" "facts") ∈ lw_all := lw_g (lw_at lw_m6 41 rfl) rfl
theorem q1349 : (Jvm.Cond.laysFinal "PuzzleWedModel" "PuzzleWedModel" "newHeight" "[I") ∈ lw_all := lw_g (lw_at lw_m6 42 rfl) rfl
theorem q1350 : (Jvm.Cond.soleField "PuzzleWedModel" "newHeight") ∈ lw_all := lw_g (lw_at lw_m6 43 rfl) rfl
theorem q1351 : (Jvm.Cond.laysFinal "PuzzleWedModel" "PuzzleWedModel" "newStop" "[I") ∈ lw_all := lw_g (lw_at lw_m6 44 rfl) rfl
theorem q1352 : (Jvm.Cond.soleField "PuzzleWedModel" "newStop") ∈ lw_all := lw_g (lw_at lw_m6 45 rfl) rfl
theorem q1353 : (Jvm.Cond.lays "PuzzleWedModel" "PuzzleWedModel" "newMany" "I") ∈ lw_all := lw_g (lw_at lw_m6 46 rfl) rfl
theorem q1354 : (Jvm.Cond.soleField "PuzzleWedModel" "newMany") ∈ lw_all := lw_g (lw_at lw_m6 47 rfl) rfl
theorem q1355 : (Jvm.Cond.lays "PuzzleWedModel" "PuzzleWedModel" "stops" "I") ∈ lw_all := lw_g (lw_at lw_m6 48 rfl) rfl
theorem q1356 : (Jvm.Cond.soleField "PuzzleWedModel" "stops") ∈ lw_all := lw_g (lw_at lw_m6 49 rfl) rfl
theorem q1357 : (Jvm.Cond.lays "PuzzleWedModel" "PuzzleWedModel" "wedNow" "I") ∈ lw_all := lw_g (lw_at lw_m6 50 rfl) rfl
theorem q1358 : (Jvm.Cond.soleField "PuzzleWedModel" "wedNow") ∈ lw_all := lw_g (lw_at lw_m6 51 rfl) rfl
theorem q1359 : (Jvm.Cond.lays "PuzzleWedModel" "PuzzleWedModel" "triesNow" "I") ∈ lw_all := lw_g (lw_at lw_m6 52 rfl) rfl
theorem q1360 : (Jvm.Cond.soleField "PuzzleWedModel" "triesNow") ∈ lw_all := lw_g (lw_at lw_m6 53 rfl) rfl
theorem q1361 : (Jvm.Cond.lays "PuzzleWedModel" "PuzzleWedModel" "partsNow" "I") ∈ lw_all := lw_g (lw_at lw_m6 54 rfl) rfl
theorem q1362 : (Jvm.Cond.soleField "PuzzleWedModel" "partsNow") ∈ lw_all := lw_g (lw_at lw_m6 55 rfl) rfl
theorem q1363 : (Jvm.Cond.laysFinal "PuzzleWedModel" "PuzzleWedModel" "fitOf" "[I") ∈ lw_all := lw_g (lw_at lw_m6 56 rfl) rfl
theorem q1364 : (Jvm.Cond.soleField "PuzzleWedModel" "fitOf") ∈ lw_all := lw_g (lw_at lw_m6 57 rfl) rfl
theorem q1365 : (Jvm.Cond.laysFinal "PuzzleWedModel" "PuzzleWedModel" "slackNow" "[I") ∈ lw_all := lw_g (lw_at lw_m6 58 rfl) rfl
theorem q1366 : (Jvm.Cond.soleField "PuzzleWedModel" "slackNow") ∈ lw_all := lw_g (lw_at lw_m6 59 rfl) rfl
theorem q1367 : (Jvm.Cond.laysFinal "PuzzleWedModel" "PuzzleWedModel" "likeOf" "[I") ∈ lw_all := lw_g (lw_at lw_m6 60 rfl) rfl
theorem q1368 : (Jvm.Cond.soleField "PuzzleWedModel" "likeOf") ∈ lw_all := lw_g (lw_at lw_m6 61 rfl) rfl
theorem q1369 : (Jvm.Cond.laysFinal "PuzzleWedModel" "PuzzleWedModel" "bestOf" "[I") ∈ lw_all := lw_g (lw_at lw_m6 62 rfl) rfl
theorem q1370 : (Jvm.Cond.soleField "PuzzleWedModel" "bestOf") ∈ lw_all := lw_g (lw_at lw_m6 63 rfl) rfl
theorem q1371 : (Jvm.Cond.laysFinal "PuzzleWedModel" "PuzzleWedModel" "askedBy" "[I") ∈ lw_all := lw_g (lw_at lw_m6 64 rfl) rfl
theorem q1372 : (Jvm.Cond.soleField "PuzzleWedModel" "askedBy") ∈ lw_all := lw_g (lw_at lw_m6 65 rfl) rfl
theorem q1373 : (Jvm.Cond.laysFinal "PuzzleWedModel" "PuzzleWedModel" "getOf" "[I") ∈ lw_all := lw_g (lw_at lw_m6 66 rfl) rfl
theorem q1374 : (Jvm.Cond.soleField "PuzzleWedModel" "getOf") ∈ lw_all := lw_g (lw_at lw_m6 67 rfl) rfl
theorem q1375 : (Jvm.Cond.laysFinal "PuzzleWedModel" "PuzzleWedModel" "rowNow" "[I") ∈ lw_all := lw_g (lw_at lw_m6 68 rfl) rfl
theorem q1376 : (Jvm.Cond.soleField "PuzzleWedModel" "rowNow") ∈ lw_all := lw_g (lw_at lw_m6 69 rfl) rfl
theorem q1377 : (Jvm.Cond.laysFinal "PuzzleWedModel" "PuzzleWedModel" "workOf" "[I") ∈ lw_all := lw_g (lw_at lw_m6 70 rfl) rfl
theorem q1378 : (Jvm.Cond.soleField "PuzzleWedModel" "workOf") ∈ lw_all := lw_g (lw_at lw_m6 71 rfl) rfl
theorem q1379 : (Jvm.Cond.laysFinal "PuzzleWedModel" "PuzzleWedModel" "sanded" "[I") ∈ lw_all := lw_g (lw_at lw_m6 72 rfl) rfl
theorem q1380 : (Jvm.Cond.soleField "PuzzleWedModel" "sanded") ∈ lw_all := lw_g (lw_at lw_m6 73 rfl) rfl
theorem q1381 : (Jvm.Cond.lays "PuzzleWedModel" "PuzzleWedModel" "sandPiece" "I") ∈ lw_all := lw_g (lw_at lw_m6 74 rfl) rfl
theorem q1382 : (Jvm.Cond.soleField "PuzzleWedModel" "sandPiece") ∈ lw_all := lw_g (lw_at lw_m6 75 rfl) rfl
theorem q1383 : (Jvm.Cond.lays "PuzzleWedModel" "PuzzleWedModel" "sandA" "I") ∈ lw_all := lw_g (lw_at lw_m6 76 rfl) rfl
theorem q1384 : (Jvm.Cond.soleField "PuzzleWedModel" "sandA") ∈ lw_all := lw_g (lw_at lw_m6 77 rfl) rfl
theorem q1385 : (Jvm.Cond.lays "PuzzleWedModel" "PuzzleWedModel" "sandB" "I") ∈ lw_all := lw_g (lw_at lw_m6 78 rfl) rfl
theorem q1386 : (Jvm.Cond.soleField "PuzzleWedModel" "sandB") ∈ lw_all := lw_g (lw_at lw_m6 79 rfl) rfl
theorem q1387 : (Jvm.Cond.lays "PuzzleWedModel" "PuzzleWedModel" "isKept" "Z") ∈ lw_all := lw_g (lw_at lw_m6 80 rfl) rfl
theorem q1388 : (Jvm.Cond.soleField "PuzzleWedModel" "isKept") ∈ lw_all := lw_g (lw_at lw_m6 81 rfl) rfl
theorem q1389 : (Jvm.Cond.superclass "PuzzleWedModel" "java/lang/Object") ∈ lw_all := lw_g (lw_at lw_m6 82 rfl) rfl
theorem q1391 : (Jvm.Cond.instanceMethod ({ cls := "PuzzleWedModel", name := "person", desc := "(III)Z" } : Jvm.MethodName)) ∈ lw_all := lw_g (lw_at lw_m6 84 rfl) rfl
theorem q1392 : (Jvm.Cond.selects "PuzzleWedModel" ({ cls := "PuzzleWedModel", name := "person", desc := "(III)Z" } : Jvm.MethodName) ({ cls := "PuzzleWedModel", name := "person", desc := "(III)Z" } : Jvm.MethodName)) ∈ lw_all := lw_g (lw_at lw_m6 85 rfl) rfl
theorem q1393 : (Jvm.Cond.code ({ cls := "PuzzleWedModel", name := "person", desc := "(III)Z" } : Jvm.MethodName) prog_21_method_13_code (4 : Nat) (Option.some Jvm.ClassFile.FieldType.boolean)) ∈ lw_all := lw_g (lw_at lw_m6 86 rfl) rfl
theorem q1394 : (Jvm.Cond.methodLink "PuzzleWedModel" (97 : Nat) ({ cls := "PuzzleWedModel", name := "isTwelve", desc := "(I)Z" } : Jvm.MethodName)) ∈ lw_all := lw_g (lw_at lw_m6 87 rfl) rfl
theorem q1395 : (Jvm.Cond.static ({ cls := "PuzzleWedModel", name := "isTwelve", desc := "(I)Z" } : Jvm.MethodName)) ∈ lw_all := lw_g (lw_at lw_m6 88 rfl) rfl
theorem q1396 : (Jvm.Cond.code ({ cls := "PuzzleWedModel", name := "isTwelve", desc := "(I)Z" } : Jvm.MethodName) prog_21_method_9_code (1 : Nat) (Option.some Jvm.ClassFile.FieldType.boolean)) ∈ lw_all := lw_g (lw_at lw_m6 89 rfl) rfl
theorem q1397 : (Jvm.Cond.methodLink "PuzzleWedModel" (105 : Nat) ({ cls := "PuzzleWedModel", name := "isPerson", desc := "(I)Z" } : Jvm.MethodName)) ∈ lw_all := lw_g (lw_at lw_m6 90 rfl) rfl
theorem q1398 : (Jvm.Cond.privateMethod ({ cls := "PuzzleWedModel", name := "isPerson", desc := "(I)Z" } : Jvm.MethodName)) ∈ lw_tbl := lw_at lw_m6 91 rfl
theorem q1399 : (Jvm.Cond.instanceMethod ({ cls := "PuzzleWedModel", name := "isPerson", desc := "(I)Z" } : Jvm.MethodName)) ∈ lw_all := lw_g (lw_at lw_m6 92 rfl) rfl
theorem q1400 : (Jvm.Cond.code ({ cls := "PuzzleWedModel", name := "isPerson", desc := "(I)Z" } : Jvm.MethodName) prog_21_method_10_code (2 : Nat) (Option.some Jvm.ClassFile.FieldType.boolean)) ∈ lw_all := lw_g (lw_at lw_m6 93 rfl) rfl
theorem q1401 : (Jvm.Cond.methodLink "PuzzleWedModel" (101 : Nat) ({ cls := "PuzzleWedModel", name := "has", desc := "(II)Z" } : Jvm.MethodName)) ∈ lw_all := lw_g (lw_at lw_m6 94 rfl) rfl
theorem q1402 : (Jvm.Cond.static ({ cls := "PuzzleWedModel", name := "has", desc := "(II)Z" } : Jvm.MethodName)) ∈ lw_all := lw_g (lw_at lw_m6 95 rfl) rfl
theorem q1403 : (Jvm.Cond.code ({ cls := "PuzzleWedModel", name := "has", desc := "(II)Z" } : Jvm.MethodName) prog_21_method_6_code (2 : Nat) (Option.some Jvm.ClassFile.FieldType.boolean)) ∈ lw_all := lw_g (lw_at lw_m6 96 rfl) rfl
theorem q1404 : (Jvm.Cond.methodLink "PuzzleWedModel" (111 : Nat) ({ cls := "PuzzleWedModel", name := "in", desc := "(III)Z" } : Jvm.MethodName)) ∈ lw_all := lw_g (lw_at lw_m6 97 rfl) rfl
theorem q1405 : (Jvm.Cond.static ({ cls := "PuzzleWedModel", name := "in", desc := "(III)Z" } : Jvm.MethodName)) ∈ lw_all := lw_g (lw_at lw_m6 98 rfl) rfl
theorem q1406 : (Jvm.Cond.code ({ cls := "PuzzleWedModel", name := "in", desc := "(III)Z" } : Jvm.MethodName) prog_21_method_2_code (3 : Nat) (Option.some Jvm.ClassFile.FieldType.boolean)) ∈ lw_all := lw_g (lw_at lw_m6 99 rfl) rfl
theorem q1408 : (Jvm.Cond.instanceMethod ({ cls := "PuzzleWedModel", name := "wear", desc := "(II)Z" } : Jvm.MethodName)) ∈ lw_all := lw_g (lw_at lw_m6 101 rfl) rfl
theorem q1409 : (Jvm.Cond.selects "PuzzleWedModel" ({ cls := "PuzzleWedModel", name := "wear", desc := "(II)Z" } : Jvm.MethodName) ({ cls := "PuzzleWedModel", name := "wear", desc := "(II)Z" } : Jvm.MethodName)) ∈ lw_all := lw_g (lw_at lw_m6 102 rfl) rfl
theorem q1410 : (Jvm.Cond.code ({ cls := "PuzzleWedModel", name := "wear", desc := "(II)Z" } : Jvm.MethodName) prog_21_method_14_code (3 : Nat) (Option.some Jvm.ClassFile.FieldType.boolean)) ∈ lw_all := lw_g (lw_at lw_m6 103 rfl) rfl
theorem q1412 : (Jvm.Cond.instanceMethod ({ cls := "PuzzleWedModel", name := "dies", desc := "(I)Z" } : Jvm.MethodName)) ∈ lw_all := lw_g (lw_at lw_m6 105 rfl) rfl
theorem q1413 : (Jvm.Cond.selects "PuzzleWedModel" ({ cls := "PuzzleWedModel", name := "dies", desc := "(I)Z" } : Jvm.MethodName) ({ cls := "PuzzleWedModel", name := "dies", desc := "(I)Z" } : Jvm.MethodName)) ∈ lw_all := lw_g (lw_at lw_m6 106 rfl) rfl
theorem q1414 : (Jvm.Cond.code ({ cls := "PuzzleWedModel", name := "dies", desc := "(I)Z" } : Jvm.MethodName) prog_21_method_16_code (3 : Nat) (Option.some Jvm.ClassFile.FieldType.boolean)) ∈ lw_all := lw_g (lw_at lw_m6 107 rfl) rfl
theorem q1415 : (Jvm.Cond.methodLink "PuzzleWedModel" (108 : Nat) ({ cls := "PuzzleWedModel", name := "lives", desc := "(I)Z" } : Jvm.MethodName)) ∈ lw_all := lw_g (lw_at lw_m6 108 rfl) rfl
theorem q1416 : (Jvm.Cond.privateMethod ({ cls := "PuzzleWedModel", name := "lives", desc := "(I)Z" } : Jvm.MethodName)) ∈ lw_tbl := lw_at lw_m6 109 rfl
theorem q1417 : (Jvm.Cond.instanceMethod ({ cls := "PuzzleWedModel", name := "lives", desc := "(I)Z" } : Jvm.MethodName)) ∈ lw_all := lw_g (lw_at lw_m6 110 rfl) rfl
theorem q1418 : (Jvm.Cond.code ({ cls := "PuzzleWedModel", name := "lives", desc := "(I)Z" } : Jvm.MethodName) prog_21_method_11_code (2 : Nat) (Option.some Jvm.ClassFile.FieldType.boolean)) ∈ lw_all := lw_g (lw_at lw_m6 111 rfl) rfl
theorem q1419 : (Jvm.Cond.methodLink "PuzzleWedModel" (115 : Nat) ({ cls := "PuzzleWedModel", name := "parts", desc := "(I)V" } : Jvm.MethodName)) ∈ lw_all := lw_g (lw_at lw_m6 112 rfl) rfl
theorem q1420 : (Jvm.Cond.privateMethod ({ cls := "PuzzleWedModel", name := "parts", desc := "(I)V" } : Jvm.MethodName)) ∈ lw_tbl := lw_at lw_m6 113 rfl
theorem q1421 : (Jvm.Cond.instanceMethod ({ cls := "PuzzleWedModel", name := "parts", desc := "(I)V" } : Jvm.MethodName)) ∈ lw_all := lw_g (lw_at lw_m6 114 rfl) rfl
theorem q1422 : (Jvm.Cond.code ({ cls := "PuzzleWedModel", name := "parts", desc := "(I)V" } : Jvm.MethodName) prog_21_method_15_code (3 : Nat) (Option.none : Option Jvm.ClassFile.FieldType)) ∈ lw_all := lw_g (lw_at lw_m6 115 rfl) rfl
theorem q1424 : (Jvm.Cond.instanceMethod ({ cls := "PuzzleWedModel", name := "weds", desc := "(II)Z" } : Jvm.MethodName)) ∈ lw_all := lw_g (lw_at lw_m6 117 rfl) rfl
theorem q1425 : (Jvm.Cond.selects "PuzzleWedModel" ({ cls := "PuzzleWedModel", name := "weds", desc := "(II)Z" } : Jvm.MethodName) ({ cls := "PuzzleWedModel", name := "weds", desc := "(II)Z" } : Jvm.MethodName)) ∈ lw_all := lw_g (lw_at lw_m6 118 rfl) rfl
theorem q1426 : (Jvm.Cond.code ({ cls := "PuzzleWedModel", name := "weds", desc := "(II)Z" } : Jvm.MethodName) prog_21_method_18_code (3 : Nat) (Option.some Jvm.ClassFile.FieldType.boolean)) ∈ lw_all := lw_g (lw_at lw_m6 119 rfl) rfl
theorem q1427 : (Jvm.Cond.methodLink "PuzzleWedModel" (119 : Nat) ({ cls := "PuzzleWedModel", name := "isFree", desc := "(I)Z" } : Jvm.MethodName)) ∈ lw_all := lw_g (lw_at lw_m6 120 rfl) rfl
theorem q1428 : (Jvm.Cond.privateMethod ({ cls := "PuzzleWedModel", name := "isFree", desc := "(I)Z" } : Jvm.MethodName)) ∈ lw_tbl := lw_at lw_m6 121 rfl
theorem q1429 : (Jvm.Cond.instanceMethod ({ cls := "PuzzleWedModel", name := "isFree", desc := "(I)Z" } : Jvm.MethodName)) ∈ lw_all := lw_g (lw_at lw_m6 122 rfl) rfl
theorem q1430 : (Jvm.Cond.code ({ cls := "PuzzleWedModel", name := "isFree", desc := "(I)Z" } : Jvm.MethodName) prog_21_method_12_code (2 : Nat) (Option.some Jvm.ClassFile.FieldType.boolean)) ∈ lw_all := lw_g (lw_at lw_m6 123 rfl) rfl
theorem q1431 : (Jvm.Cond.methodLink "PuzzleWedModel" (122 : Nat) ({ cls := "PuzzleWedModel", name := "wedsTwo", desc := "(II)V" } : Jvm.MethodName)) ∈ lw_all := lw_g (lw_at lw_m6 124 rfl) rfl
theorem q1432 : (Jvm.Cond.privateMethod ({ cls := "PuzzleWedModel", name := "wedsTwo", desc := "(II)V" } : Jvm.MethodName)) ∈ lw_tbl := lw_at lw_m6 125 rfl
theorem q1433 : (Jvm.Cond.instanceMethod ({ cls := "PuzzleWedModel", name := "wedsTwo", desc := "(II)V" } : Jvm.MethodName)) ∈ lw_all := lw_g (lw_at lw_m6 126 rfl) rfl
theorem q1434 : (Jvm.Cond.code ({ cls := "PuzzleWedModel", name := "wedsTwo", desc := "(II)V" } : Jvm.MethodName) prog_21_method_17_code (3 : Nat) (Option.none : Option Jvm.ClassFile.FieldType)) ∈ lw_all := lw_g (lw_at lw_m6 127 rfl) rfl
theorem q1436 : (Jvm.Cond.instanceMethod ({ cls := "PuzzleWedModel", name := "feed", desc := "(IIIII)I" } : Jvm.MethodName)) ∈ lw_all := lw_g (lw_at lw_m6 129 rfl) rfl
theorem q1437 : (Jvm.Cond.selects "PuzzleWedModel" ({ cls := "PuzzleWedModel", name := "feed", desc := "(IIIII)I" } : Jvm.MethodName) ({ cls := "PuzzleWedModel", name := "feed", desc := "(IIIII)I" } : Jvm.MethodName)) ∈ lw_all := lw_g (lw_at lw_m6 130 rfl) rfl
theorem q1438 : (Jvm.Cond.code ({ cls := "PuzzleWedModel", name := "feed", desc := "(IIIII)I" } : Jvm.MethodName) prog_21_method_20_code (6 : Nat) (Option.some Jvm.ClassFile.FieldType.int)) ∈ lw_all := lw_g (lw_at lw_m6 131 rfl) rfl
theorem q1439 : (Jvm.Cond.methodLink "PuzzleWedModel" (130 : Nat) ({ cls := "PuzzleWedModel", name := "types", desc := "(I)V" } : Jvm.MethodName)) ∈ lw_all := lw_g (lw_at lw_m6 132 rfl) rfl
theorem q1440 : (Jvm.Cond.privateMethod ({ cls := "PuzzleWedModel", name := "types", desc := "(I)V" } : Jvm.MethodName)) ∈ lw_tbl := lw_at lw_m6 133 rfl
theorem q1441 : (Jvm.Cond.instanceMethod ({ cls := "PuzzleWedModel", name := "types", desc := "(I)V" } : Jvm.MethodName)) ∈ lw_all := lw_g (lw_at lw_m6 134 rfl) rfl
theorem q1442 : (Jvm.Cond.code ({ cls := "PuzzleWedModel", name := "types", desc := "(I)V" } : Jvm.MethodName) prog_21_method_19_code (3 : Nat) (Option.none : Option Jvm.ClassFile.FieldType)) ∈ lw_all := lw_g (lw_at lw_m6 135 rfl) rfl
theorem q1444 : (Jvm.Cond.instanceMethod ({ cls := "PuzzleWedModel", name := "law", desc := "(I)I" } : Jvm.MethodName)) ∈ lw_all := lw_g (lw_at lw_m6 137 rfl) rfl
theorem q1445 : (Jvm.Cond.selects "PuzzleWedModel" ({ cls := "PuzzleWedModel", name := "law", desc := "(I)I" } : Jvm.MethodName) ({ cls := "PuzzleWedModel", name := "law", desc := "(I)I" } : Jvm.MethodName)) ∈ lw_all := lw_g (lw_at lw_m6 138 rfl) rfl
theorem q1446 : (Jvm.Cond.code ({ cls := "PuzzleWedModel", name := "law", desc := "(I)I" } : Jvm.MethodName) prog_21_method_42_code (4 : Nat) (Option.some Jvm.ClassFile.FieldType.int)) ∈ lw_all := lw_g (lw_at lw_m6 139 rfl) rfl
theorem q1447 : (Jvm.Cond.methodLink "PuzzleWedModel" (219 : Nat) ({ cls := "PuzzleWedModel", name := "readsClause", desc := "()Z" } : Jvm.MethodName)) ∈ lw_all := lw_g (lw_at lw_m6 140 rfl) rfl
theorem q1448 : (Jvm.Cond.privateMethod ({ cls := "PuzzleWedModel", name := "readsClause", desc := "()Z" } : Jvm.MethodName)) ∈ lw_tbl := lw_at lw_m6 141 rfl
theorem q1449 : (Jvm.Cond.instanceMethod ({ cls := "PuzzleWedModel", name := "readsClause", desc := "()Z" } : Jvm.MethodName)) ∈ lw_all := lw_g (lw_at lw_m6 142 rfl) rfl
theorem q1450 : (Jvm.Cond.code ({ cls := "PuzzleWedModel", name := "readsClause", desc := "()Z" } : Jvm.MethodName) prog_21_method_41_code (2 : Nat) (Option.some Jvm.ClassFile.FieldType.boolean)) ∈ lw_all := lw_g (lw_at lw_m6 143 rfl) rfl
theorem q1451 : (Jvm.Cond.methodLink "PuzzleWedModel" (139 : Nat) ({ cls := "PuzzleWedModel", name := "here", desc := "()I" } : Jvm.MethodName)) ∈ lw_all := lw_g (lw_at lw_m6 144 rfl) rfl
theorem q1452 : (Jvm.Cond.privateMethod ({ cls := "PuzzleWedModel", name := "here", desc := "()I" } : Jvm.MethodName)) ∈ lw_tbl := lw_at lw_m6 145 rfl
theorem q1453 : (Jvm.Cond.instanceMethod ({ cls := "PuzzleWedModel", name := "here", desc := "()I" } : Jvm.MethodName)) ∈ lw_all := lw_g (lw_at lw_m6 146 rfl) rfl
theorem q1454 : (Jvm.Cond.code ({ cls := "PuzzleWedModel", name := "here", desc := "()I" } : Jvm.MethodName) prog_21_method_21_code (1 : Nat) (Option.some Jvm.ClassFile.FieldType.int)) ∈ lw_all := lw_g (lw_at lw_m6 147 rfl) rfl
theorem q1455 : (Jvm.Cond.methodLink "PuzzleWedModel" (210 : Nat) ({ cls := "PuzzleWedModel", name := "isClause", desc := "(I)Z" } : Jvm.MethodName)) ∈ lw_all := lw_g (lw_at lw_m6 148 rfl) rfl
theorem q1456 : (Jvm.Cond.static ({ cls := "PuzzleWedModel", name := "isClause", desc := "(I)Z" } : Jvm.MethodName)) ∈ lw_all := lw_g (lw_at lw_m6 149 rfl) rfl
theorem q1457 : (Jvm.Cond.code ({ cls := "PuzzleWedModel", name := "isClause", desc := "(I)Z" } : Jvm.MethodName) prog_21_method_40_code (1 : Nat) (Option.some Jvm.ClassFile.FieldType.boolean)) ∈ lw_all := lw_g (lw_at lw_m6 150 rfl) rfl
theorem q1458 : (Jvm.Cond.methodLink "PuzzleWedModel" (146 : Nat) ({ cls := "PuzzleWedModel", name := "wrongAt", desc := "(II)Z" } : Jvm.MethodName)) ∈ lw_all := lw_g (lw_at lw_m6 151 rfl) rfl
theorem q1459 : (Jvm.Cond.privateMethod ({ cls := "PuzzleWedModel", name := "wrongAt", desc := "(II)Z" } : Jvm.MethodName)) ∈ lw_tbl := lw_at lw_m6 152 rfl
theorem q1460 : (Jvm.Cond.instanceMethod ({ cls := "PuzzleWedModel", name := "wrongAt", desc := "(II)Z" } : Jvm.MethodName)) ∈ lw_all := lw_g (lw_at lw_m6 153 rfl) rfl
theorem q1461 : (Jvm.Cond.code ({ cls := "PuzzleWedModel", name := "wrongAt", desc := "(II)Z" } : Jvm.MethodName) prog_21_method_23_code (3 : Nat) (Option.some Jvm.ClassFile.FieldType.boolean)) ∈ lw_all := lw_g (lw_at lw_m6 154 rfl) rfl
theorem q1462 : (Jvm.Cond.methodLink "PuzzleWedModel" (195 : Nat) ({ cls := "PuzzleWedModel", name := "readsSum", desc := "()Z" } : Jvm.MethodName)) ∈ lw_all := lw_g (lw_at lw_m6 155 rfl) rfl
theorem q1463 : (Jvm.Cond.privateMethod ({ cls := "PuzzleWedModel", name := "readsSum", desc := "()Z" } : Jvm.MethodName)) ∈ lw_tbl := lw_at lw_m6 156 rfl
theorem q1464 : (Jvm.Cond.instanceMethod ({ cls := "PuzzleWedModel", name := "readsSum", desc := "()Z" } : Jvm.MethodName)) ∈ lw_all := lw_g (lw_at lw_m6 157 rfl) rfl
theorem q1465 : (Jvm.Cond.code ({ cls := "PuzzleWedModel", name := "readsSum", desc := "()Z" } : Jvm.MethodName) prog_21_method_34_code (3 : Nat) (Option.some Jvm.ClassFile.FieldType.boolean)) ∈ lw_all := lw_g (lw_at lw_m6 158 rfl) rfl
theorem q1466 : (Jvm.Cond.methodLink "PuzzleWedModel" (182 : Nat) ({ cls := "PuzzleWedModel", name := "readsFactor", desc := "()Z" } : Jvm.MethodName)) ∈ lw_all := lw_g (lw_at lw_m6 159 rfl) rfl
theorem q1467 : (Jvm.Cond.privateMethod ({ cls := "PuzzleWedModel", name := "readsFactor", desc := "()Z" } : Jvm.MethodName)) ∈ lw_tbl := lw_at lw_m6 160 rfl
theorem q1468 : (Jvm.Cond.instanceMethod ({ cls := "PuzzleWedModel", name := "readsFactor", desc := "()Z" } : Jvm.MethodName)) ∈ lw_all := lw_g (lw_at lw_m6 161 rfl) rfl
theorem q1469 : (Jvm.Cond.code ({ cls := "PuzzleWedModel", name := "readsFactor", desc := "()Z" } : Jvm.MethodName) prog_21_method_32_code (2 : Nat) (Option.some Jvm.ClassFile.FieldType.boolean)) ∈ lw_all := lw_g (lw_at lw_m6 162 rfl) rfl
theorem q1470 : (Jvm.Cond.methodLink "PuzzleWedModel" (172 : Nat) ({ cls := "PuzzleWedModel", name := "opens", desc := "(I)Z" } : Jvm.MethodName)) ∈ lw_all := lw_g (lw_at lw_m6 163 rfl) rfl
theorem q1471 : (Jvm.Cond.privateMethod ({ cls := "PuzzleWedModel", name := "opens", desc := "(I)Z" } : Jvm.MethodName)) ∈ lw_tbl := lw_at lw_m6 164 rfl
theorem q1472 : (Jvm.Cond.instanceMethod ({ cls := "PuzzleWedModel", name := "opens", desc := "(I)Z" } : Jvm.MethodName)) ∈ lw_all := lw_g (lw_at lw_m6 165 rfl) rfl
theorem q1473 : (Jvm.Cond.code ({ cls := "PuzzleWedModel", name := "opens", desc := "(I)Z" } : Jvm.MethodName) prog_21_method_27_code (2 : Nat) (Option.some Jvm.ClassFile.FieldType.boolean)) ∈ lw_all := lw_g (lw_at lw_m6 166 rfl) rfl
theorem q1474 : (Jvm.Cond.constant "PuzzleWedModel" (159 : Nat) (1048576 : Int32)) ∈ lw_all := lw_g (lw_at lw_m6 167 rfl) rfl
theorem q1475 : (Jvm.Cond.methodLink "PuzzleWedModel" (152 : Nat) ({ cls := "PuzzleWedModel", name := "isDigit", desc := "()Z" } : Jvm.MethodName)) ∈ lw_all := lw_g (lw_at lw_m6 168 rfl) rfl
theorem q1476 : (Jvm.Cond.privateMethod ({ cls := "PuzzleWedModel", name := "isDigit", desc := "()Z" } : Jvm.MethodName)) ∈ lw_tbl := lw_at lw_m6 169 rfl
theorem q1477 : (Jvm.Cond.instanceMethod ({ cls := "PuzzleWedModel", name := "isDigit", desc := "()Z" } : Jvm.MethodName)) ∈ lw_all := lw_g (lw_at lw_m6 170 rfl) rfl
theorem q1478 : (Jvm.Cond.code ({ cls := "PuzzleWedModel", name := "isDigit", desc := "()Z" } : Jvm.MethodName) prog_21_method_22_code (1 : Nat) (Option.some Jvm.ClassFile.FieldType.boolean)) ∈ lw_all := lw_g (lw_at lw_m6 171 rfl) rfl
theorem q1479 : (Jvm.Cond.methodLink "PuzzleWedModel" (175 : Nat) ({ cls := "PuzzleWedModel", name := "readsNumber", desc := "()Z" } : Jvm.MethodName)) ∈ lw_all := lw_g (lw_at lw_m6 172 rfl) rfl
theorem q1480 : (Jvm.Cond.privateMethod ({ cls := "PuzzleWedModel", name := "readsNumber", desc := "()Z" } : Jvm.MethodName)) ∈ lw_tbl := lw_at lw_m6 173 rfl
theorem q1481 : (Jvm.Cond.instanceMethod ({ cls := "PuzzleWedModel", name := "readsNumber", desc := "()Z" } : Jvm.MethodName)) ∈ lw_all := lw_g (lw_at lw_m6 174 rfl) rfl
theorem q1482 : (Jvm.Cond.code ({ cls := "PuzzleWedModel", name := "readsNumber", desc := "()Z" } : Jvm.MethodName) prog_21_method_25_code (2 : Nat) (Option.some Jvm.ClassFile.FieldType.boolean)) ∈ lw_all := lw_g (lw_at lw_m6 175 rfl) rfl
theorem q1483 : (Jvm.Cond.methodLink "PuzzleWedModel" (169 : Nat) ({ cls := "PuzzleWedModel", name := "notes", desc := "(II)V" } : Jvm.MethodName)) ∈ lw_all := lw_g (lw_at lw_m6 176 rfl) rfl
theorem q1484 : (Jvm.Cond.privateMethod ({ cls := "PuzzleWedModel", name := "notes", desc := "(II)V" } : Jvm.MethodName)) ∈ lw_tbl := lw_at lw_m6 177 rfl
theorem q1485 : (Jvm.Cond.instanceMethod ({ cls := "PuzzleWedModel", name := "notes", desc := "(II)V" } : Jvm.MethodName)) ∈ lw_all := lw_g (lw_at lw_m6 178 rfl) rfl
theorem q1486 : (Jvm.Cond.code ({ cls := "PuzzleWedModel", name := "notes", desc := "(II)V" } : Jvm.MethodName) prog_21_method_26_code (3 : Nat) (Option.none : Option Jvm.ClassFile.FieldType)) ∈ lw_all := lw_g (lw_at lw_m6 179 rfl) rfl
theorem q1487 : (Jvm.Cond.methodLink "PuzzleWedModel" (178 : Nat) ({ cls := "PuzzleWedModel", name := "factOf", desc := "(I)I" } : Jvm.MethodName)) ∈ lw_all := lw_g (lw_at lw_m6 180 rfl) rfl
theorem q1488 : (Jvm.Cond.static ({ cls := "PuzzleWedModel", name := "factOf", desc := "(I)I" } : Jvm.MethodName)) ∈ lw_all := lw_g (lw_at lw_m6 181 rfl) rfl
theorem q1489 : (Jvm.Cond.code ({ cls := "PuzzleWedModel", name := "factOf", desc := "(I)I" } : Jvm.MethodName) prog_21_method_29_code (1 : Nat) (Option.some Jvm.ClassFile.FieldType.int)) ∈ lw_all := lw_g (lw_at lw_m6 182 rfl) rfl
theorem q1490 : (Jvm.Cond.methodLink "PuzzleWedModel" (185 : Nat) ({ cls := "PuzzleWedModel", name := "sumSign", desc := "(I)I" } : Jvm.MethodName)) ∈ lw_all := lw_g (lw_at lw_m6 183 rfl) rfl
theorem q1491 : (Jvm.Cond.static ({ cls := "PuzzleWedModel", name := "sumSign", desc := "(I)I" } : Jvm.MethodName)) ∈ lw_all := lw_g (lw_at lw_m6 184 rfl) rfl
theorem q1492 : (Jvm.Cond.code ({ cls := "PuzzleWedModel", name := "sumSign", desc := "(I)I" } : Jvm.MethodName) prog_21_method_30_code (1 : Nat) (Option.some Jvm.ClassFile.FieldType.int)) ∈ lw_all := lw_g (lw_at lw_m6 185 rfl) rfl
theorem q1493 : (Jvm.Cond.methodLink "PuzzleWedModel" (188 : Nat) ({ cls := "PuzzleWedModel", name := "closesSums", desc := "(Z)V" } : Jvm.MethodName)) ∈ lw_all := lw_g (lw_at lw_m6 186 rfl) rfl
theorem q1494 : (Jvm.Cond.privateMethod ({ cls := "PuzzleWedModel", name := "closesSums", desc := "(Z)V" } : Jvm.MethodName)) ∈ lw_tbl := lw_at lw_m6 187 rfl
theorem q1495 : (Jvm.Cond.instanceMethod ({ cls := "PuzzleWedModel", name := "closesSums", desc := "(Z)V" } : Jvm.MethodName)) ∈ lw_all := lw_g (lw_at lw_m6 188 rfl) rfl
theorem q1496 : (Jvm.Cond.code ({ cls := "PuzzleWedModel", name := "closesSums", desc := "(Z)V" } : Jvm.MethodName) prog_21_method_31_code (2 : Nat) (Option.none : Option Jvm.ClassFile.FieldType)) ∈ lw_all := lw_g (lw_at lw_m6 189 rfl) rfl
theorem q1497 : (Jvm.Cond.methodLink "PuzzleWedModel" (166 : Nat) ({ cls := "PuzzleWedModel", name := "waitTop", desc := "()I" } : Jvm.MethodName)) ∈ lw_all := lw_g (lw_at lw_m6 190 rfl) rfl
theorem q1498 : (Jvm.Cond.privateMethod ({ cls := "PuzzleWedModel", name := "waitTop", desc := "()I" } : Jvm.MethodName)) ∈ lw_tbl := lw_at lw_m6 191 rfl
theorem q1499 : (Jvm.Cond.instanceMethod ({ cls := "PuzzleWedModel", name := "waitTop", desc := "()I" } : Jvm.MethodName)) ∈ lw_all := lw_g (lw_at lw_m6 192 rfl) rfl
theorem q1500 : (Jvm.Cond.code ({ cls := "PuzzleWedModel", name := "waitTop", desc := "()I" } : Jvm.MethodName) prog_21_method_28_code (1 : Nat) (Option.some Jvm.ClassFile.FieldType.int)) ∈ lw_all := lw_g (lw_at lw_m6 193 rfl) rfl
theorem q1501 : (Jvm.Cond.methodLink "PuzzleWedModel" (192 : Nat) ({ cls := "PuzzleWedModel", name := "hasOpenSum", desc := "(I)Z" } : Jvm.MethodName)) ∈ lw_all := lw_g (lw_at lw_m6 194 rfl) rfl
theorem q1502 : (Jvm.Cond.privateMethod ({ cls := "PuzzleWedModel", name := "hasOpenSum", desc := "(I)Z" } : Jvm.MethodName)) ∈ lw_tbl := lw_at lw_m6 195 rfl
theorem q1503 : (Jvm.Cond.instanceMethod ({ cls := "PuzzleWedModel", name := "hasOpenSum", desc := "(I)Z" } : Jvm.MethodName)) ∈ lw_all := lw_g (lw_at lw_m6 196 rfl) rfl
theorem q1504 : (Jvm.Cond.code ({ cls := "PuzzleWedModel", name := "hasOpenSum", desc := "(I)Z" } : Jvm.MethodName) prog_21_method_33_code (3 : Nat) (Option.some Jvm.ClassFile.FieldType.boolean)) ∈ lw_all := lw_g (lw_at lw_m6 197 rfl) rfl
theorem q1505 : (Jvm.Cond.methodLink "PuzzleWedModel" (216 : Nat) ({ cls := "PuzzleWedModel", name := "readsCondition", desc := "()Z" } : Jvm.MethodName)) ∈ lw_all := lw_g (lw_at lw_m6 198 rfl) rfl
theorem q1506 : (Jvm.Cond.privateMethod ({ cls := "PuzzleWedModel", name := "readsCondition", desc := "()Z" } : Jvm.MethodName)) ∈ lw_tbl := lw_at lw_m6 199 rfl
theorem q1507 : (Jvm.Cond.instanceMethod ({ cls := "PuzzleWedModel", name := "readsCondition", desc := "()Z" } : Jvm.MethodName)) ∈ lw_all := lw_g (lw_at lw_m6 200 rfl) rfl
theorem q1508 : (Jvm.Cond.code ({ cls := "PuzzleWedModel", name := "readsCondition", desc := "()Z" } : Jvm.MethodName) prog_21_method_39_code (1 : Nat) (Option.some Jvm.ClassFile.FieldType.boolean)) ∈ lw_all := lw_g (lw_at lw_m6 201 rfl) rfl
theorem q1509 : (Jvm.Cond.methodLink "PuzzleWedModel" (201 : Nat) ({ cls := "PuzzleWedModel", name := "readsCompared", desc := "()Z" } : Jvm.MethodName)) ∈ lw_all := lw_g (lw_at lw_m6 202 rfl) rfl
theorem q1510 : (Jvm.Cond.privateMethod ({ cls := "PuzzleWedModel", name := "readsCompared", desc := "()Z" } : Jvm.MethodName)) ∈ lw_tbl := lw_at lw_m6 203 rfl
theorem q1511 : (Jvm.Cond.instanceMethod ({ cls := "PuzzleWedModel", name := "readsCompared", desc := "()Z" } : Jvm.MethodName)) ∈ lw_all := lw_g (lw_at lw_m6 204 rfl) rfl
theorem q1512 : (Jvm.Cond.code ({ cls := "PuzzleWedModel", name := "readsCompared", desc := "()Z" } : Jvm.MethodName) prog_21_method_38_code (2 : Nat) (Option.some Jvm.ClassFile.FieldType.boolean)) ∈ lw_all := lw_g (lw_at lw_m6 205 rfl) rfl
theorem q1513 : (Jvm.Cond.methodLink "PuzzleWedModel" (198 : Nat) ({ cls := "PuzzleWedModel", name := "endsPiece", desc := "()V" } : Jvm.MethodName)) ∈ lw_all := lw_g (lw_at lw_m6 206 rfl) rfl
theorem q1514 : (Jvm.Cond.privateMethod ({ cls := "PuzzleWedModel", name := "endsPiece", desc := "()V" } : Jvm.MethodName)) ∈ lw_tbl := lw_at lw_m6 207 rfl
theorem q1515 : (Jvm.Cond.instanceMethod ({ cls := "PuzzleWedModel", name := "endsPiece", desc := "()V" } : Jvm.MethodName)) ∈ lw_all := lw_g (lw_at lw_m6 208 rfl) rfl
theorem q1516 : (Jvm.Cond.code ({ cls := "PuzzleWedModel", name := "endsPiece", desc := "()V" } : Jvm.MethodName) prog_21_method_35_code (1 : Nat) (Option.none : Option Jvm.ClassFile.FieldType)) ∈ lw_all := lw_g (lw_at lw_m6 209 rfl) rfl
theorem q1517 : (Jvm.Cond.methodLink "PuzzleWedModel" (204 : Nat) ({ cls := "PuzzleWedModel", name := "lands", desc := "(Z)V" } : Jvm.MethodName)) ∈ lw_all := lw_g (lw_at lw_m6 210 rfl) rfl
theorem q1518 : (Jvm.Cond.privateMethod ({ cls := "PuzzleWedModel", name := "lands", desc := "(Z)V" } : Jvm.MethodName)) ∈ lw_tbl := lw_at lw_m6 211 rfl
theorem q1519 : (Jvm.Cond.instanceMethod ({ cls := "PuzzleWedModel", name := "lands", desc := "(Z)V" } : Jvm.MethodName)) ∈ lw_all := lw_g (lw_at lw_m6 212 rfl) rfl
theorem q1520 : (Jvm.Cond.code ({ cls := "PuzzleWedModel", name := "lands", desc := "(Z)V" } : Jvm.MethodName) prog_21_method_36_code (3 : Nat) (Option.none : Option Jvm.ClassFile.FieldType)) ∈ lw_all := lw_g (lw_at lw_m6 213 rfl) rfl
theorem q1521 : (Jvm.Cond.methodLink "PuzzleWedModel" (207 : Nat) ({ cls := "PuzzleWedModel", name := "jumps", desc := "(I)V" } : Jvm.MethodName)) ∈ lw_all := lw_g (lw_at lw_m6 214 rfl) rfl
theorem q1522 : (Jvm.Cond.privateMethod ({ cls := "PuzzleWedModel", name := "jumps", desc := "(I)V" } : Jvm.MethodName)) ∈ lw_tbl := lw_at lw_m6 215 rfl
theorem q1523 : (Jvm.Cond.instanceMethod ({ cls := "PuzzleWedModel", name := "jumps", desc := "(I)V" } : Jvm.MethodName)) ∈ lw_all := lw_g (lw_at lw_m6 216 rfl) rfl
theorem q1524 : (Jvm.Cond.code ({ cls := "PuzzleWedModel", name := "jumps", desc := "(I)V" } : Jvm.MethodName) prog_21_method_37_code (2 : Nat) (Option.none : Option Jvm.ClassFile.FieldType)) ∈ lw_all := lw_g (lw_at lw_m6 217 rfl) rfl
theorem q1525 : (Jvm.Cond.methodLink "PuzzleWedModel" (222 : Nat) ({ cls := "PuzzleWedModel", name := "takes", desc := "(I)Z" } : Jvm.MethodName)) ∈ lw_all := lw_g (lw_at lw_m6 218 rfl) rfl
theorem q1526 : (Jvm.Cond.privateMethod ({ cls := "PuzzleWedModel", name := "takes", desc := "(I)Z" } : Jvm.MethodName)) ∈ lw_tbl := lw_at lw_m6 219 rfl
theorem q1527 : (Jvm.Cond.instanceMethod ({ cls := "PuzzleWedModel", name := "takes", desc := "(I)Z" } : Jvm.MethodName)) ∈ lw_all := lw_g (lw_at lw_m6 220 rfl) rfl
theorem q1528 : (Jvm.Cond.code ({ cls := "PuzzleWedModel", name := "takes", desc := "(I)Z" } : Jvm.MethodName) prog_21_method_24_code (2 : Nat) (Option.some Jvm.ClassFile.FieldType.boolean)) ∈ lw_all := lw_g (lw_at lw_m6 221 rfl) rfl
theorem q1530 : (Jvm.Cond.instanceMethod ({ cls := "PuzzleWedModel", name := "edge", desc := "(II)I" } : Jvm.MethodName)) ∈ lw_all := lw_g (lw_at lw_m6 223 rfl) rfl
theorem q1531 : (Jvm.Cond.selects "PuzzleWedModel" ({ cls := "PuzzleWedModel", name := "edge", desc := "(II)I" } : Jvm.MethodName) ({ cls := "PuzzleWedModel", name := "edge", desc := "(II)I" } : Jvm.MethodName)) ∈ lw_all := lw_g (lw_at lw_m6 224 rfl) rfl
theorem q1532 : (Jvm.Cond.code ({ cls := "PuzzleWedModel", name := "edge", desc := "(II)I" } : Jvm.MethodName) prog_21_method_54_code (6 : Nat) (Option.some Jvm.ClassFile.FieldType.int)) ∈ lw_all := lw_g (lw_at lw_m6 225 rfl) rfl
theorem q1533 : (Jvm.Cond.methodLink "PuzzleWedModel" (271 : Nat) ({ cls := "PuzzleWedModel", name := "readsHeight", desc := "()Z" } : Jvm.MethodName)) ∈ lw_all := lw_g (lw_at lw_m6 226 rfl) rfl
theorem q1534 : (Jvm.Cond.privateMethod ({ cls := "PuzzleWedModel", name := "readsHeight", desc := "()Z" } : Jvm.MethodName)) ∈ lw_tbl := lw_at lw_m6 227 rfl
theorem q1535 : (Jvm.Cond.instanceMethod ({ cls := "PuzzleWedModel", name := "readsHeight", desc := "()Z" } : Jvm.MethodName)) ∈ lw_all := lw_g (lw_at lw_m6 228 rfl) rfl
theorem q1536 : (Jvm.Cond.code ({ cls := "PuzzleWedModel", name := "readsHeight", desc := "()Z" } : Jvm.MethodName) prog_21_method_53_code (6 : Nat) (Option.some Jvm.ClassFile.FieldType.boolean)) ∈ lw_all := lw_g (lw_at lw_m6 229 rfl) rfl
theorem q1537 : (Jvm.Cond.methodLink "PuzzleWedModel" (239 : Nat) ({ cls := "PuzzleWedModel", name := "size", desc := "(I)I" } : Jvm.MethodName)) ∈ lw_all := lw_g (lw_at lw_m6 230 rfl) rfl
theorem q1538 : (Jvm.Cond.static ({ cls := "PuzzleWedModel", name := "size", desc := "(I)I" } : Jvm.MethodName)) ∈ lw_all := lw_g (lw_at lw_m6 231 rfl) rfl
theorem q1539 : (Jvm.Cond.code ({ cls := "PuzzleWedModel", name := "size", desc := "(I)I" } : Jvm.MethodName) prog_21_method_5_code (1 : Nat) (Option.some Jvm.ClassFile.FieldType.int)) ∈ lw_all := lw_g (lw_at lw_m6 232 rfl) rfl
theorem q1541 : (Jvm.Cond.instanceMethod ({ cls := "PuzzleWedModel", name := "journey", desc := "(II)I" } : Jvm.MethodName)) ∈ lw_all := lw_g (lw_at lw_m6 234 rfl) rfl
theorem q1542 : (Jvm.Cond.selects "PuzzleWedModel" ({ cls := "PuzzleWedModel", name := "journey", desc := "(II)I" } : Jvm.MethodName) ({ cls := "PuzzleWedModel", name := "journey", desc := "(II)I" } : Jvm.MethodName)) ∈ lw_all := lw_g (lw_at lw_m6 235 rfl) rfl
theorem q1543 : (Jvm.Cond.code ({ cls := "PuzzleWedModel", name := "journey", desc := "(II)I" } : Jvm.MethodName) prog_21_method_56_code (5 : Nat) (Option.some Jvm.ClassFile.FieldType.int)) ∈ lw_all := lw_g (lw_at lw_m6 236 rfl) rfl
theorem q1544 : (Jvm.Cond.methodLink "PuzzleWedModel" (277 : Nat) ({ cls := "PuzzleWedModel", name := "readsStop", desc := "()Z" } : Jvm.MethodName)) ∈ lw_all := lw_g (lw_at lw_m6 237 rfl) rfl
theorem q1545 : (Jvm.Cond.privateMethod ({ cls := "PuzzleWedModel", name := "readsStop", desc := "()Z" } : Jvm.MethodName)) ∈ lw_tbl := lw_at lw_m6 238 rfl
theorem q1546 : (Jvm.Cond.instanceMethod ({ cls := "PuzzleWedModel", name := "readsStop", desc := "()Z" } : Jvm.MethodName)) ∈ lw_all := lw_g (lw_at lw_m6 239 rfl) rfl
theorem q1547 : (Jvm.Cond.code ({ cls := "PuzzleWedModel", name := "readsStop", desc := "()Z" } : Jvm.MethodName) prog_21_method_55_code (4 : Nat) (Option.some Jvm.ClassFile.FieldType.boolean)) ∈ lw_all := lw_g (lw_at lw_m7 0 rfl) rfl
theorem q1549 : (Jvm.Cond.instanceMethod ({ cls := "PuzzleWedModel", name := "days", desc := "(I)I" } : Jvm.MethodName)) ∈ lw_all := lw_g (lw_at lw_m7 2 rfl) rfl
theorem q1550 : (Jvm.Cond.selects "PuzzleWedModel" ({ cls := "PuzzleWedModel", name := "days", desc := "(I)I" } : Jvm.MethodName) ({ cls := "PuzzleWedModel", name := "days", desc := "(I)I" } : Jvm.MethodName)) ∈ lw_all := lw_g (lw_at lw_m7 3 rfl) rfl
theorem q1551 : (Jvm.Cond.code ({ cls := "PuzzleWedModel", name := "days", desc := "(I)I" } : Jvm.MethodName) prog_21_method_65_code (2 : Nat) (Option.some Jvm.ClassFile.FieldType.int)) ∈ lw_all := lw_g (lw_at lw_m7 4 rfl) rfl
theorem q1552 : (Jvm.Cond.methodLink "PuzzleWedModel" (314 : Nat) ({ cls := "PuzzleWedModel", name := "daysGo", desc := "(I)V" } : Jvm.MethodName)) ∈ lw_all := lw_g (lw_at lw_m7 5 rfl) rfl
theorem q1553 : (Jvm.Cond.privateMethod ({ cls := "PuzzleWedModel", name := "daysGo", desc := "(I)V" } : Jvm.MethodName)) ∈ lw_tbl := lw_at lw_m7 6 rfl
theorem q1554 : (Jvm.Cond.instanceMethod ({ cls := "PuzzleWedModel", name := "daysGo", desc := "(I)V" } : Jvm.MethodName)) ∈ lw_all := lw_g (lw_at lw_m7 7 rfl) rfl
theorem q1555 : (Jvm.Cond.code ({ cls := "PuzzleWedModel", name := "daysGo", desc := "(I)V" } : Jvm.MethodName) prog_21_method_64_code (5 : Nat) (Option.none : Option Jvm.ClassFile.FieldType)) ∈ lw_all := lw_g (lw_at lw_m7 8 rfl) rfl
theorem q1556 : (Jvm.Cond.methodLink "PuzzleWedModel" (305 : Nat) ({ cls := "PuzzleWedModel", name := "travels", desc := "(I)V" } : Jvm.MethodName)) ∈ lw_all := lw_g (lw_at lw_m7 9 rfl) rfl
theorem q1557 : (Jvm.Cond.privateMethod ({ cls := "PuzzleWedModel", name := "travels", desc := "(I)V" } : Jvm.MethodName)) ∈ lw_tbl := lw_at lw_m7 10 rfl
theorem q1558 : (Jvm.Cond.instanceMethod ({ cls := "PuzzleWedModel", name := "travels", desc := "(I)V" } : Jvm.MethodName)) ∈ lw_all := lw_g (lw_at lw_m7 11 rfl) rfl
theorem q1559 : (Jvm.Cond.code ({ cls := "PuzzleWedModel", name := "travels", desc := "(I)V" } : Jvm.MethodName) prog_21_method_57_code (2 : Nat) (Option.none : Option Jvm.ClassFile.FieldType)) ∈ lw_all := lw_g (lw_at lw_m7 12 rfl) rfl
theorem q1560 : (Jvm.Cond.methodLink "PuzzleWedModel" (308 : Nat) ({ cls := "PuzzleWedModel", name := "triesIn", desc := "(II)V" } : Jvm.MethodName)) ∈ lw_all := lw_g (lw_at lw_m7 13 rfl) rfl
theorem q1561 : (Jvm.Cond.privateMethod ({ cls := "PuzzleWedModel", name := "triesIn", desc := "(II)V" } : Jvm.MethodName)) ∈ lw_tbl := lw_at lw_m7 14 rfl
theorem q1562 : (Jvm.Cond.instanceMethod ({ cls := "PuzzleWedModel", name := "triesIn", desc := "(II)V" } : Jvm.MethodName)) ∈ lw_all := lw_g (lw_at lw_m7 15 rfl) rfl
theorem q1563 : (Jvm.Cond.code ({ cls := "PuzzleWedModel", name := "triesIn", desc := "(II)V" } : Jvm.MethodName) prog_21_method_61_code (5 : Nat) (Option.none : Option Jvm.ClassFile.FieldType)) ∈ lw_all := lw_g (lw_at lw_m7 16 rfl) rfl
theorem q1564 : (Jvm.Cond.methodLink "PuzzleWedModel" (283 : Nat) ({ cls := "PuzzleWedModel", name := "haveTried", desc := "(II)V" } : Jvm.MethodName)) ∈ lw_all := lw_g (lw_at lw_m7 17 rfl) rfl
theorem q1565 : (Jvm.Cond.privateMethod ({ cls := "PuzzleWedModel", name := "haveTried", desc := "(II)V" } : Jvm.MethodName)) ∈ lw_tbl := lw_at lw_m7 18 rfl
theorem q1566 : (Jvm.Cond.instanceMethod ({ cls := "PuzzleWedModel", name := "haveTried", desc := "(II)V" } : Jvm.MethodName)) ∈ lw_all := lw_g (lw_at lw_m7 19 rfl) rfl
theorem q1567 : (Jvm.Cond.code ({ cls := "PuzzleWedModel", name := "haveTried", desc := "(II)V" } : Jvm.MethodName) prog_21_method_59_code (3 : Nat) (Option.none : Option Jvm.ClassFile.FieldType)) ∈ lw_all := lw_g (lw_at lw_m7 20 rfl) rfl
theorem q1568 : (Jvm.Cond.methodLink "PuzzleWedModel" (286 : Nat) ({ cls := "PuzzleWedModel", name := "fit", desc := "(II)Z" } : Jvm.MethodName)) ∈ lw_all := lw_g (lw_at lw_m7 21 rfl) rfl
theorem q1569 : (Jvm.Cond.privateMethod ({ cls := "PuzzleWedModel", name := "fit", desc := "(II)Z" } : Jvm.MethodName)) ∈ lw_tbl := lw_at lw_m7 22 rfl
theorem q1570 : (Jvm.Cond.instanceMethod ({ cls := "PuzzleWedModel", name := "fit", desc := "(II)Z" } : Jvm.MethodName)) ∈ lw_all := lw_g (lw_at lw_m7 23 rfl) rfl
theorem q1571 : (Jvm.Cond.code ({ cls := "PuzzleWedModel", name := "fit", desc := "(II)Z" } : Jvm.MethodName) prog_21_method_51_code (4 : Nat) (Option.some Jvm.ClassFile.FieldType.boolean)) ∈ lw_all := lw_g (lw_at lw_m7 24 rfl) rfl
theorem q1572 : (Jvm.Cond.methodLink "PuzzleWedModel" (262 : Nat) ({ cls := "PuzzleWedModel", name := "slackBy", desc := "(II)I" } : Jvm.MethodName)) ∈ lw_all := lw_g (lw_at lw_m7 25 rfl) rfl
theorem q1573 : (Jvm.Cond.privateMethod ({ cls := "PuzzleWedModel", name := "slackBy", desc := "(II)I" } : Jvm.MethodName)) ∈ lw_tbl := lw_at lw_m7 26 rfl
theorem q1574 : (Jvm.Cond.instanceMethod ({ cls := "PuzzleWedModel", name := "slackBy", desc := "(II)I" } : Jvm.MethodName)) ∈ lw_all := lw_g (lw_at lw_m7 27 rfl) rfl
theorem q1575 : (Jvm.Cond.code ({ cls := "PuzzleWedModel", name := "slackBy", desc := "(II)I" } : Jvm.MethodName) prog_21_method_48_code (6 : Nat) (Option.some Jvm.ClassFile.FieldType.int)) ∈ lw_all := lw_g (lw_at lw_m7 28 rfl) rfl
theorem q1576 : (Jvm.Cond.constant "PuzzleWedModel" (245 : Nat) (1000000000 : Int32)) ∈ lw_all := lw_g (lw_at lw_m7 29 rfl) rfl
theorem q1577 : (Jvm.Cond.methodLink "PuzzleWedModel" (246 : Nat) ({ cls := "PuzzleWedModel", name := "slackOf", desc := "(II)I" } : Jvm.MethodName)) ∈ lw_all := lw_g (lw_at lw_m7 30 rfl) rfl
theorem q1578 : (Jvm.Cond.privateMethod ({ cls := "PuzzleWedModel", name := "slackOf", desc := "(II)I" } : Jvm.MethodName)) ∈ lw_tbl := lw_at lw_m7 31 rfl
theorem q1579 : (Jvm.Cond.instanceMethod ({ cls := "PuzzleWedModel", name := "slackOf", desc := "(II)I" } : Jvm.MethodName)) ∈ lw_all := lw_g (lw_at lw_m7 32 rfl) rfl
theorem q1580 : (Jvm.Cond.code ({ cls := "PuzzleWedModel", name := "slackOf", desc := "(II)I" } : Jvm.MethodName) prog_21_method_47_code (5 : Nat) (Option.some Jvm.ClassFile.FieldType.int)) ∈ lw_all := lw_g (lw_at lw_m7 33 rfl) rfl
theorem q1581 : (Jvm.Cond.methodLink "PuzzleWedModel" (236 : Nat) ({ cls := "PuzzleWedModel", name := "heightOf", desc := "(II)I" } : Jvm.MethodName)) ∈ lw_all := lw_g (lw_at lw_m7 34 rfl) rfl
theorem q1582 : (Jvm.Cond.privateMethod ({ cls := "PuzzleWedModel", name := "heightOf", desc := "(II)I" } : Jvm.MethodName)) ∈ lw_tbl := lw_at lw_m7 35 rfl
theorem q1583 : (Jvm.Cond.instanceMethod ({ cls := "PuzzleWedModel", name := "heightOf", desc := "(II)I" } : Jvm.MethodName)) ∈ lw_all := lw_g (lw_at lw_m7 36 rfl) rfl
theorem q1584 : (Jvm.Cond.code ({ cls := "PuzzleWedModel", name := "heightOf", desc := "(II)I" } : Jvm.MethodName) prog_21_method_46_code (3 : Nat) (Option.some Jvm.ClassFile.FieldType.int)) ∈ lw_all := lw_g (lw_at lw_m7 37 rfl) rfl
theorem q1585 : (Jvm.Cond.methodLink "PuzzleWedModel" (242 : Nat) ({ cls := "PuzzleWedModel", name := "max", desc := "(II)I" } : Jvm.MethodName)) ∈ lw_all := lw_g (lw_at lw_m7 38 rfl) rfl
theorem q1586 : (Jvm.Cond.static ({ cls := "PuzzleWedModel", name := "max", desc := "(II)I" } : Jvm.MethodName)) ∈ lw_all := lw_g (lw_at lw_m7 39 rfl) rfl
theorem q1587 : (Jvm.Cond.code ({ cls := "PuzzleWedModel", name := "max", desc := "(II)I" } : Jvm.MethodName) prog_21_method_4_code (2 : Nat) (Option.some Jvm.ClassFile.FieldType.int)) ∈ lw_all := lw_g (lw_at lw_m7 40 rfl) rfl
theorem q1588 : (Jvm.Cond.methodLink "PuzzleWedModel" (249 : Nat) ({ cls := "PuzzleWedModel", name := "min", desc := "(II)I" } : Jvm.MethodName)) ∈ lw_all := lw_g (lw_at lw_m7 41 rfl) rfl
theorem q1589 : (Jvm.Cond.static ({ cls := "PuzzleWedModel", name := "min", desc := "(II)I" } : Jvm.MethodName)) ∈ lw_all := lw_g (lw_at lw_m7 42 rfl) rfl
theorem q1590 : (Jvm.Cond.code ({ cls := "PuzzleWedModel", name := "min", desc := "(II)I" } : Jvm.MethodName) prog_21_method_3_code (2 : Nat) (Option.some Jvm.ClassFile.FieldType.int)) ∈ lw_all := lw_g (lw_at lw_m7 43 rfl) rfl
theorem q1591 : (Jvm.Cond.methodLink "PuzzleWedModel" (265 : Nat) ({ cls := "PuzzleWedModel", name := "allowed", desc := "(II)I" } : Jvm.MethodName)) ∈ lw_all := lw_g (lw_at lw_m7 44 rfl) rfl
theorem q1592 : (Jvm.Cond.privateMethod ({ cls := "PuzzleWedModel", name := "allowed", desc := "(II)I" } : Jvm.MethodName)) ∈ lw_tbl := lw_at lw_m7 45 rfl
theorem q1593 : (Jvm.Cond.instanceMethod ({ cls := "PuzzleWedModel", name := "allowed", desc := "(II)I" } : Jvm.MethodName)) ∈ lw_all := lw_g (lw_at lw_m7 46 rfl) rfl
theorem q1594 : (Jvm.Cond.code ({ cls := "PuzzleWedModel", name := "allowed", desc := "(II)I" } : Jvm.MethodName) prog_21_method_50_code (4 : Nat) (Option.some Jvm.ClassFile.FieldType.int)) ∈ lw_all := lw_g (lw_at lw_m7 47 rfl) rfl
theorem q1595 : (Jvm.Cond.methodLink "PuzzleWedModel" (255 : Nat) ({ cls := "PuzzleWedModel", name := "feels", desc := "(III)V" } : Jvm.MethodName)) ∈ lw_all := lw_g (lw_at lw_m7 48 rfl) rfl
theorem q1596 : (Jvm.Cond.privateMethod ({ cls := "PuzzleWedModel", name := "feels", desc := "(III)V" } : Jvm.MethodName)) ∈ lw_tbl := lw_at lw_m7 49 rfl
theorem q1597 : (Jvm.Cond.instanceMethod ({ cls := "PuzzleWedModel", name := "feels", desc := "(III)V" } : Jvm.MethodName)) ∈ lw_all := lw_g (lw_at lw_m7 50 rfl) rfl
theorem q1598 : (Jvm.Cond.code ({ cls := "PuzzleWedModel", name := "feels", desc := "(III)V" } : Jvm.MethodName) prog_21_method_49_code (4 : Nat) (Option.none : Option Jvm.ClassFile.FieldType)) ∈ lw_all := lw_g (lw_at lw_m7 51 rfl) rfl
theorem q1599 : (Jvm.Cond.methodLink "PuzzleWedModel" (252 : Nat) ({ cls := "PuzzleWedModel", name := "bits", desc := "(I)I" } : Jvm.MethodName)) ∈ lw_all := lw_g (lw_at lw_m7 52 rfl) rfl
theorem q1600 : (Jvm.Cond.static ({ cls := "PuzzleWedModel", name := "bits", desc := "(I)I" } : Jvm.MethodName)) ∈ lw_all := lw_g (lw_at lw_m7 53 rfl) rfl
theorem q1601 : (Jvm.Cond.code ({ cls := "PuzzleWedModel", name := "bits", desc := "(I)I" } : Jvm.MethodName) prog_21_method_7_code (3 : Nat) (Option.some Jvm.ClassFile.FieldType.int)) ∈ lw_all := lw_g (lw_at lw_m7 54 rfl) rfl
theorem q1602 : (Jvm.Cond.methodLink "PuzzleWedModel" (259 : Nat) ({ cls := "PuzzleWedModel", name := "byLaw", desc := "(II)I" } : Jvm.MethodName)) ∈ lw_all := lw_g (lw_at lw_m7 55 rfl) rfl
theorem q1603 : (Jvm.Cond.privateMethod ({ cls := "PuzzleWedModel", name := "byLaw", desc := "(II)I" } : Jvm.MethodName)) ∈ lw_tbl := lw_at lw_m7 56 rfl
theorem q1604 : (Jvm.Cond.instanceMethod ({ cls := "PuzzleWedModel", name := "byLaw", desc := "(II)I" } : Jvm.MethodName)) ∈ lw_all := lw_g (lw_at lw_m7 57 rfl) rfl
theorem q1605 : (Jvm.Cond.code ({ cls := "PuzzleWedModel", name := "byLaw", desc := "(II)I" } : Jvm.MethodName) prog_21_method_45_code (5 : Nat) (Option.some Jvm.ClassFile.FieldType.int)) ∈ lw_all := lw_g (lw_at lw_m7 58 rfl) rfl
theorem q1606 : (Jvm.Cond.methodLink "PuzzleWedModel" (232 : Nat) ({ cls := "PuzzleWedModel", name := "comesTo", desc := "(II)I" } : Jvm.MethodName)) ∈ lw_all := lw_g (lw_at lw_m7 59 rfl) rfl
theorem q1607 : (Jvm.Cond.privateMethod ({ cls := "PuzzleWedModel", name := "comesTo", desc := "(II)I" } : Jvm.MethodName)) ∈ lw_tbl := lw_at lw_m7 60 rfl
theorem q1608 : (Jvm.Cond.instanceMethod ({ cls := "PuzzleWedModel", name := "comesTo", desc := "(II)I" } : Jvm.MethodName)) ∈ lw_all := lw_g (lw_at lw_m7 61 rfl) rfl
theorem q1609 : (Jvm.Cond.code ({ cls := "PuzzleWedModel", name := "comesTo", desc := "(II)I" } : Jvm.MethodName) prog_21_method_44_code (8 : Nat) (Option.some Jvm.ClassFile.FieldType.int)) ∈ lw_all := lw_g (lw_at lw_m7 62 rfl) rfl
theorem q1610 : (Jvm.Cond.methodLink "PuzzleWedModel" (228 : Nat) ({ cls := "PuzzleWedModel", name := "reckon", desc := "(III)I" } : Jvm.MethodName)) ∈ lw_all := lw_g (lw_at lw_m7 63 rfl) rfl
theorem q1611 : (Jvm.Cond.static ({ cls := "PuzzleWedModel", name := "reckon", desc := "(III)I" } : Jvm.MethodName)) ∈ lw_all := lw_g (lw_at lw_m7 64 rfl) rfl
theorem q1612 : (Jvm.Cond.code ({ cls := "PuzzleWedModel", name := "reckon", desc := "(III)I" } : Jvm.MethodName) prog_21_method_43_code (3 : Nat) (Option.some Jvm.ClassFile.FieldType.int)) ∈ lw_all := lw_g (lw_at lw_m7 65 rfl) rfl
theorem q1613 : (Jvm.Cond.methodLink "PuzzleWedModel" (292 : Nat) ({ cls := "PuzzleWedModel", name := "wearsBy", desc := "(II)I" } : Jvm.MethodName)) ∈ lw_all := lw_g (lw_at lw_m7 66 rfl) rfl
theorem q1614 : (Jvm.Cond.privateMethod ({ cls := "PuzzleWedModel", name := "wearsBy", desc := "(II)I" } : Jvm.MethodName)) ∈ lw_tbl := lw_at lw_m7 67 rfl
theorem q1615 : (Jvm.Cond.instanceMethod ({ cls := "PuzzleWedModel", name := "wearsBy", desc := "(II)I" } : Jvm.MethodName)) ∈ lw_all := lw_g (lw_at lw_m7 68 rfl) rfl
theorem q1616 : (Jvm.Cond.code ({ cls := "PuzzleWedModel", name := "wearsBy", desc := "(II)I" } : Jvm.MethodName) prog_21_method_60_code (3 : Nat) (Option.some Jvm.ClassFile.FieldType.int)) ∈ lw_all := lw_g (lw_at lw_m7 69 rfl) rfl
theorem q1617 : (Jvm.Cond.methodLink "PuzzleWedModel" (295 : Nat) ({ cls := "PuzzleWedModel", name := "wearsAll", desc := "(II)V" } : Jvm.MethodName)) ∈ lw_all := lw_g (lw_at lw_m7 70 rfl) rfl
theorem q1618 : (Jvm.Cond.privateMethod ({ cls := "PuzzleWedModel", name := "wearsAll", desc := "(II)V" } : Jvm.MethodName)) ∈ lw_tbl := lw_at lw_m7 71 rfl
theorem q1619 : (Jvm.Cond.instanceMethod ({ cls := "PuzzleWedModel", name := "wearsAll", desc := "(II)V" } : Jvm.MethodName)) ∈ lw_all := lw_g (lw_at lw_m7 72 rfl) rfl
theorem q1620 : (Jvm.Cond.code ({ cls := "PuzzleWedModel", name := "wearsAll", desc := "(II)V" } : Jvm.MethodName) prog_21_method_58_code (4 : Nat) (Option.none : Option Jvm.ClassFile.FieldType)) ∈ lw_all := lw_g (lw_at lw_m7 73 rfl) rfl
theorem q1621 : (Jvm.Cond.methodLink "PuzzleWedModel" (311 : Nat) ({ cls := "PuzzleWedModel", name := "creak", desc := "(I)V" } : Jvm.MethodName)) ∈ lw_all := lw_g (lw_at lw_m7 74 rfl) rfl
theorem q1622 : (Jvm.Cond.privateMethod ({ cls := "PuzzleWedModel", name := "creak", desc := "(I)V" } : Jvm.MethodName)) ∈ lw_tbl := lw_at lw_m7 75 rfl
theorem q1623 : (Jvm.Cond.instanceMethod ({ cls := "PuzzleWedModel", name := "creak", desc := "(I)V" } : Jvm.MethodName)) ∈ lw_all := lw_g (lw_at lw_m7 76 rfl) rfl
theorem q1624 : (Jvm.Cond.code ({ cls := "PuzzleWedModel", name := "creak", desc := "(I)V" } : Jvm.MethodName) prog_21_method_63_code (4 : Nat) (Option.none : Option Jvm.ClassFile.FieldType)) ∈ lw_all := lw_g (lw_at lw_m7 77 rfl) rfl
theorem q1625 : (Jvm.Cond.methodLink "PuzzleWedModel" (299 : Nat) ({ cls := "PuzzleWedModel", name := "draws", desc := "()I" } : Jvm.MethodName)) ∈ lw_all := lw_g (lw_at lw_m7 78 rfl) rfl
theorem q1626 : (Jvm.Cond.privateMethod ({ cls := "PuzzleWedModel", name := "draws", desc := "()I" } : Jvm.MethodName)) ∈ lw_tbl := lw_at lw_m7 79 rfl
theorem q1627 : (Jvm.Cond.instanceMethod ({ cls := "PuzzleWedModel", name := "draws", desc := "()I" } : Jvm.MethodName)) ∈ lw_all := lw_g (lw_at lw_m7 80 rfl) rfl
theorem q1628 : (Jvm.Cond.code ({ cls := "PuzzleWedModel", name := "draws", desc := "()I" } : Jvm.MethodName) prog_21_method_62_code (1 : Nat) (Option.some Jvm.ClassFile.FieldType.int)) ∈ lw_all := lw_g (lw_at lw_m7 81 rfl) rfl
theorem q1629 : (Jvm.Cond.constant "PuzzleWedModel" (298 : Nat) (65536 : Int32)) ∈ lw_all := lw_g (lw_at lw_m7 82 rfl) rfl
theorem q1631 : (Jvm.Cond.instanceMethod ({ cls := "PuzzleWedModel", name := "tried", desc := "(II)I" } : Jvm.MethodName)) ∈ lw_all := lw_g (lw_at lw_m7 84 rfl) rfl
theorem q1632 : (Jvm.Cond.selects "PuzzleWedModel" ({ cls := "PuzzleWedModel", name := "tried", desc := "(II)I" } : Jvm.MethodName) ({ cls := "PuzzleWedModel", name := "tried", desc := "(II)I" } : Jvm.MethodName)) ∈ lw_all := lw_g (lw_at lw_m7 85 rfl) rfl
theorem q1633 : (Jvm.Cond.code ({ cls := "PuzzleWedModel", name := "tried", desc := "(II)I" } : Jvm.MethodName) prog_21_method_67_code (5 : Nat) (Option.some Jvm.ClassFile.FieldType.int)) ∈ lw_all := lw_g (lw_at lw_m7 86 rfl) rfl
theorem q1634 : (Jvm.Cond.methodLink "PuzzleWedModel" (317 : Nat) ({ cls := "PuzzleWedModel", name := "copiesRow", desc := "([I[I)V" } : Jvm.MethodName)) ∈ lw_all := lw_g (lw_at lw_m7 87 rfl) rfl
theorem q1635 : (Jvm.Cond.static ({ cls := "PuzzleWedModel", name := "copiesRow", desc := "([I[I)V" } : Jvm.MethodName)) ∈ lw_all := lw_g (lw_at lw_m7 88 rfl) rfl
theorem q1636 : (Jvm.Cond.code ({ cls := "PuzzleWedModel", name := "copiesRow", desc := "([I[I)V" } : Jvm.MethodName) prog_21_method_8_code (3 : Nat) (Option.none : Option Jvm.ClassFile.FieldType)) ∈ lw_all := lw_g (lw_at lw_m7 89 rfl) rfl
theorem q1637 : (Jvm.Cond.methodLink "PuzzleWedModel" (321 : Nat) ({ cls := "PuzzleWedModel", name := "wedTwos", desc := "()I" } : Jvm.MethodName)) ∈ lw_all := lw_g (lw_at lw_m7 90 rfl) rfl
theorem q1638 : (Jvm.Cond.privateMethod ({ cls := "PuzzleWedModel", name := "wedTwos", desc := "()I" } : Jvm.MethodName)) ∈ lw_tbl := lw_at lw_m7 91 rfl
theorem q1639 : (Jvm.Cond.instanceMethod ({ cls := "PuzzleWedModel", name := "wedTwos", desc := "()I" } : Jvm.MethodName)) ∈ lw_all := lw_g (lw_at lw_m7 92 rfl) rfl
theorem q1640 : (Jvm.Cond.code ({ cls := "PuzzleWedModel", name := "wedTwos", desc := "()I" } : Jvm.MethodName) prog_21_method_66_code (3 : Nat) (Option.some Jvm.ClassFile.FieldType.int)) ∈ lw_all := lw_g (lw_at lw_m7 93 rfl) rfl
theorem q1642 : (Jvm.Cond.instanceMethod ({ cls := "PuzzleWedModel", name := "personIs", desc := "(II)I" } : Jvm.MethodName)) ∈ lw_all := lw_g (lw_at lw_m7 95 rfl) rfl
theorem q1643 : (Jvm.Cond.selects "PuzzleWedModel" ({ cls := "PuzzleWedModel", name := "personIs", desc := "(II)I" } : Jvm.MethodName) ({ cls := "PuzzleWedModel", name := "personIs", desc := "(II)I" } : Jvm.MethodName)) ∈ lw_all := lw_g (lw_at lw_m7 96 rfl) rfl
theorem q1644 : (Jvm.Cond.code ({ cls := "PuzzleWedModel", name := "personIs", desc := "(II)I" } : Jvm.MethodName) prog_21_method_69_code (3 : Nat) (Option.some Jvm.ClassFile.FieldType.int)) ∈ lw_all := lw_g (lw_at lw_m7 97 rfl) rfl
theorem q1645 : (Jvm.Cond.methodLink "PuzzleWedModel" (324 : Nat) ({ cls := "PuzzleWedModel", name := "fitting", desc := "(I)I" } : Jvm.MethodName)) ∈ lw_all := lw_g (lw_at lw_m7 98 rfl) rfl
theorem q1646 : (Jvm.Cond.privateMethod ({ cls := "PuzzleWedModel", name := "fitting", desc := "(I)I" } : Jvm.MethodName)) ∈ lw_tbl := lw_at lw_m7 99 rfl
theorem q1647 : (Jvm.Cond.instanceMethod ({ cls := "PuzzleWedModel", name := "fitting", desc := "(I)I" } : Jvm.MethodName)) ∈ lw_all := lw_g (lw_at lw_m7 100 rfl) rfl
theorem q1648 : (Jvm.Cond.code ({ cls := "PuzzleWedModel", name := "fitting", desc := "(I)I" } : Jvm.MethodName) prog_21_method_68_code (4 : Nat) (Option.some Jvm.ClassFile.FieldType.int)) ∈ lw_all := lw_g (lw_at lw_m7 101 rfl) rfl
theorem q1650 : (Jvm.Cond.instanceMethod ({ cls := "PuzzleWedModel", name := "piece", desc := "(II)I" } : Jvm.MethodName)) ∈ lw_all := lw_g (lw_at lw_m7 103 rfl) rfl
theorem q1651 : (Jvm.Cond.selects "PuzzleWedModel" ({ cls := "PuzzleWedModel", name := "piece", desc := "(II)I" } : Jvm.MethodName) ({ cls := "PuzzleWedModel", name := "piece", desc := "(II)I" } : Jvm.MethodName)) ∈ lw_all := lw_g (lw_at lw_m7 104 rfl) rfl
theorem q1652 : (Jvm.Cond.code ({ cls := "PuzzleWedModel", name := "piece", desc := "(II)I" } : Jvm.MethodName) prog_21_method_70_code (4 : Nat) (Option.some Jvm.ClassFile.FieldType.int)) ∈ lw_all := lw_g (lw_at lw_m7 105 rfl) rfl
theorem q1654 : (Jvm.Cond.instanceMethod ({ cls := "PuzzleWedModel", name := "slack", desc := "(III)I" } : Jvm.MethodName)) ∈ lw_all := lw_g (lw_at lw_m7 107 rfl) rfl
theorem q1655 : (Jvm.Cond.selects "PuzzleWedModel" ({ cls := "PuzzleWedModel", name := "slack", desc := "(III)I" } : Jvm.MethodName) ({ cls := "PuzzleWedModel", name := "slack", desc := "(III)I" } : Jvm.MethodName)) ∈ lw_all := lw_g (lw_at lw_m7 108 rfl) rfl
theorem q1656 : (Jvm.Cond.code ({ cls := "PuzzleWedModel", name := "slack", desc := "(III)I" } : Jvm.MethodName) prog_21_method_71_code (5 : Nat) (Option.some Jvm.ClassFile.FieldType.int)) ∈ lw_all := lw_g (lw_at lw_m7 109 rfl) rfl
theorem q1657 : (Jvm.Cond.methodLink "PuzzleWedModel" (327 : Nat) ({ cls := "PuzzleWedModel", name := "likes", desc := "(II)I" } : Jvm.MethodName)) ∈ lw_all := lw_g (lw_at lw_m7 110 rfl) rfl
theorem q1658 : (Jvm.Cond.privateMethod ({ cls := "PuzzleWedModel", name := "likes", desc := "(II)I" } : Jvm.MethodName)) ∈ lw_tbl := lw_at lw_m7 111 rfl
theorem q1659 : (Jvm.Cond.instanceMethod ({ cls := "PuzzleWedModel", name := "likes", desc := "(II)I" } : Jvm.MethodName)) ∈ lw_all := lw_g (lw_at lw_m7 112 rfl) rfl
theorem q1660 : (Jvm.Cond.code ({ cls := "PuzzleWedModel", name := "likes", desc := "(II)I" } : Jvm.MethodName) prog_21_method_52_code (3 : Nat) (Option.some Jvm.ClassFile.FieldType.int)) ∈ lw_all := lw_g (lw_at lw_m7 113 rfl) rfl
theorem q1662 : (Jvm.Cond.instanceMethod ({ cls := "PuzzleWedModel", name := "locks", desc := "(I)I" } : Jvm.MethodName)) ∈ lw_all := lw_g (lw_at lw_m7 115 rfl) rfl
theorem q1663 : (Jvm.Cond.selects "PuzzleWedModel" ({ cls := "PuzzleWedModel", name := "locks", desc := "(I)I" } : Jvm.MethodName) ({ cls := "PuzzleWedModel", name := "locks", desc := "(I)I" } : Jvm.MethodName)) ∈ lw_all := lw_g (lw_at lw_m7 116 rfl) rfl
theorem q1664 : (Jvm.Cond.code ({ cls := "PuzzleWedModel", name := "locks", desc := "(I)I" } : Jvm.MethodName) prog_21_method_73_code (7 : Nat) (Option.some Jvm.ClassFile.FieldType.int)) ∈ lw_all := lw_g (lw_at lw_m7 117 rfl) rfl
theorem q1665 : (Jvm.Cond.methodLink "PuzzleWedModel" (330 : Nat) ({ cls := "PuzzleWedModel", name := "laysFits", desc := "()V" } : Jvm.MethodName)) ∈ lw_all := lw_g (lw_at lw_m7 118 rfl) rfl
theorem q1666 : (Jvm.Cond.privateMethod ({ cls := "PuzzleWedModel", name := "laysFits", desc := "()V" } : Jvm.MethodName)) ∈ lw_tbl := lw_at lw_m7 119 rfl
theorem q1667 : (Jvm.Cond.instanceMethod ({ cls := "PuzzleWedModel", name := "laysFits", desc := "()V" } : Jvm.MethodName)) ∈ lw_all := lw_g (lw_at lw_m7 120 rfl) rfl
theorem q1668 : (Jvm.Cond.code ({ cls := "PuzzleWedModel", name := "laysFits", desc := "()V" } : Jvm.MethodName) prog_21_method_72_code (4 : Nat) (Option.none : Option Jvm.ClassFile.FieldType)) ∈ lw_all := lw_g (lw_at lw_m7 121 rfl) rfl
theorem q1670 : (Jvm.Cond.instanceMethod ({ cls := "PuzzleWedModel", name := "most", desc := "(I)I" } : Jvm.MethodName)) ∈ lw_all := lw_g (lw_at lw_m7 123 rfl) rfl
theorem q1671 : (Jvm.Cond.selects "PuzzleWedModel" ({ cls := "PuzzleWedModel", name := "most", desc := "(I)I" } : Jvm.MethodName) ({ cls := "PuzzleWedModel", name := "most", desc := "(I)I" } : Jvm.MethodName)) ∈ lw_all := lw_g (lw_at lw_m7 124 rfl) rfl
theorem q1672 : (Jvm.Cond.code ({ cls := "PuzzleWedModel", name := "most", desc := "(I)I" } : Jvm.MethodName) prog_21_method_78_code (3 : Nat) (Option.some Jvm.ClassFile.FieldType.int)) ∈ lw_all := lw_g (lw_at lw_m7 125 rfl) rfl
theorem q1673 : (Jvm.Cond.methodLink "PuzzleWedModel" (334 : Nat) ({ cls := "PuzzleWedModel", name := "isOne", desc := "(II)Z" } : Jvm.MethodName)) ∈ lw_all := lw_g (lw_at lw_m7 126 rfl) rfl
theorem q1674 : (Jvm.Cond.privateMethod ({ cls := "PuzzleWedModel", name := "isOne", desc := "(II)Z" } : Jvm.MethodName)) ∈ lw_tbl := lw_at lw_m7 127 rfl
theorem q1675 : (Jvm.Cond.instanceMethod ({ cls := "PuzzleWedModel", name := "isOne", desc := "(II)Z" } : Jvm.MethodName)) ∈ lw_all := lw_g (lw_at lw_m7 128 rfl) rfl
theorem q1676 : (Jvm.Cond.code ({ cls := "PuzzleWedModel", name := "isOne", desc := "(II)Z" } : Jvm.MethodName) prog_21_method_74_code (3 : Nat) (Option.some Jvm.ClassFile.FieldType.boolean)) ∈ lw_all := lw_g (lw_at lw_m7 129 rfl) rfl
theorem q1677 : (Jvm.Cond.methodLink "PuzzleWedModel" (340 : Nat) ({ cls := "PuzzleWedModel", name := "laysMost", desc := "()V" } : Jvm.MethodName)) ∈ lw_all := lw_g (lw_at lw_m7 130 rfl) rfl
theorem q1678 : (Jvm.Cond.privateMethod ({ cls := "PuzzleWedModel", name := "laysMost", desc := "()V" } : Jvm.MethodName)) ∈ lw_tbl := lw_at lw_m7 131 rfl
theorem q1679 : (Jvm.Cond.instanceMethod ({ cls := "PuzzleWedModel", name := "laysMost", desc := "()V" } : Jvm.MethodName)) ∈ lw_all := lw_g (lw_at lw_m7 132 rfl) rfl
theorem q1680 : (Jvm.Cond.code ({ cls := "PuzzleWedModel", name := "laysMost", desc := "()V" } : Jvm.MethodName) prog_21_method_76_code (5 : Nat) (Option.none : Option Jvm.ClassFile.FieldType)) ∈ lw_all := lw_g (lw_at lw_m7 133 rfl) rfl
theorem q1681 : (Jvm.Cond.constant "PuzzleWedModel" (333 : Nat) (49152 : Int32)) ∈ lw_all := lw_g (lw_at lw_m7 134 rfl) rfl
theorem q1682 : (Jvm.Cond.methodLink "PuzzleWedModel" (337 : Nat) ({ cls := "PuzzleWedModel", name := "mayGet", desc := "(III)Z" } : Jvm.MethodName)) ∈ lw_all := lw_g (lw_at lw_m7 135 rfl) rfl
theorem q1683 : (Jvm.Cond.privateMethod ({ cls := "PuzzleWedModel", name := "mayGet", desc := "(III)Z" } : Jvm.MethodName)) ∈ lw_tbl := lw_at lw_m7 136 rfl
theorem q1684 : (Jvm.Cond.instanceMethod ({ cls := "PuzzleWedModel", name := "mayGet", desc := "(III)Z" } : Jvm.MethodName)) ∈ lw_all := lw_g (lw_at lw_m7 137 rfl) rfl
theorem q1685 : (Jvm.Cond.code ({ cls := "PuzzleWedModel", name := "mayGet", desc := "(III)Z" } : Jvm.MethodName) prog_21_method_75_code (4 : Nat) (Option.some Jvm.ClassFile.FieldType.boolean)) ∈ lw_all := lw_g (lw_at lw_m7 138 rfl) rfl
theorem q1686 : (Jvm.Cond.methodLink "PuzzleWedModel" (343 : Nat) ({ cls := "PuzzleWedModel", name := "getsBy", desc := "(I)I" } : Jvm.MethodName)) ∈ lw_all := lw_g (lw_at lw_m7 139 rfl) rfl
theorem q1687 : (Jvm.Cond.privateMethod ({ cls := "PuzzleWedModel", name := "getsBy", desc := "(I)I" } : Jvm.MethodName)) ∈ lw_tbl := lw_at lw_m7 140 rfl
theorem q1688 : (Jvm.Cond.instanceMethod ({ cls := "PuzzleWedModel", name := "getsBy", desc := "(I)I" } : Jvm.MethodName)) ∈ lw_all := lw_g (lw_at lw_m7 141 rfl) rfl
theorem q1689 : (Jvm.Cond.code ({ cls := "PuzzleWedModel", name := "getsBy", desc := "(I)I" } : Jvm.MethodName) prog_21_method_77_code (6 : Nat) (Option.some Jvm.ClassFile.FieldType.int)) ∈ lw_all := lw_g (lw_at lw_m7 142 rfl) rfl
theorem q1691 : (Jvm.Cond.instanceMethod ({ cls := "PuzzleWedModel", name := "stable", desc := "(I)I" } : Jvm.MethodName)) ∈ lw_all := lw_g (lw_at lw_m7 144 rfl) rfl
theorem q1692 : (Jvm.Cond.selects "PuzzleWedModel" ({ cls := "PuzzleWedModel", name := "stable", desc := "(I)I" } : Jvm.MethodName) ({ cls := "PuzzleWedModel", name := "stable", desc := "(I)I" } : Jvm.MethodName)) ∈ lw_all := lw_g (lw_at lw_m7 145 rfl) rfl
theorem q1693 : (Jvm.Cond.code ({ cls := "PuzzleWedModel", name := "stable", desc := "(I)I" } : Jvm.MethodName) prog_21_method_82_code (4 : Nat) (Option.some Jvm.ClassFile.FieldType.int)) ∈ lw_all := lw_g (lw_at lw_m7 146 rfl) rfl
theorem q1694 : (Jvm.Cond.methodLink "PuzzleWedModel" (352 : Nat) ({ cls := "PuzzleWedModel", name := "laysStable", desc := "()V" } : Jvm.MethodName)) ∈ lw_all := lw_g (lw_at lw_m7 147 rfl) rfl
theorem q1695 : (Jvm.Cond.privateMethod ({ cls := "PuzzleWedModel", name := "laysStable", desc := "()V" } : Jvm.MethodName)) ∈ lw_tbl := lw_at lw_m7 148 rfl
theorem q1696 : (Jvm.Cond.instanceMethod ({ cls := "PuzzleWedModel", name := "laysStable", desc := "()V" } : Jvm.MethodName)) ∈ lw_all := lw_g (lw_at lw_m7 149 rfl) rfl
theorem q1697 : (Jvm.Cond.code ({ cls := "PuzzleWedModel", name := "laysStable", desc := "()V" } : Jvm.MethodName) prog_21_method_81_code (4 : Nat) (Option.none : Option Jvm.ClassFile.FieldType)) ∈ lw_all := lw_g (lw_at lw_m7 150 rfl) rfl
theorem q1698 : (Jvm.Cond.methodLink "PuzzleWedModel" (346 : Nat) ({ cls := "PuzzleWedModel", name := "nextAsked", desc := "(I)I" } : Jvm.MethodName)) ∈ lw_all := lw_g (lw_at lw_m7 151 rfl) rfl
theorem q1699 : (Jvm.Cond.privateMethod ({ cls := "PuzzleWedModel", name := "nextAsked", desc := "(I)I" } : Jvm.MethodName)) ∈ lw_tbl := lw_at lw_m7 152 rfl
theorem q1700 : (Jvm.Cond.instanceMethod ({ cls := "PuzzleWedModel", name := "nextAsked", desc := "(I)I" } : Jvm.MethodName)) ∈ lw_all := lw_g (lw_at lw_m7 153 rfl) rfl
theorem q1701 : (Jvm.Cond.code ({ cls := "PuzzleWedModel", name := "nextAsked", desc := "(I)I" } : Jvm.MethodName) prog_21_method_79_code (4 : Nat) (Option.some Jvm.ClassFile.FieldType.int)) ∈ lw_all := lw_g (lw_at lw_m7 154 rfl) rfl
theorem q1702 : (Jvm.Cond.methodLink "PuzzleWedModel" (349 : Nat) ({ cls := "PuzzleWedModel", name := "keeps", desc := "(II)Z" } : Jvm.MethodName)) ∈ lw_all := lw_g (lw_at lw_m7 155 rfl) rfl
theorem q1703 : (Jvm.Cond.privateMethod ({ cls := "PuzzleWedModel", name := "keeps", desc := "(II)Z" } : Jvm.MethodName)) ∈ lw_tbl := lw_at lw_m7 156 rfl
theorem q1704 : (Jvm.Cond.instanceMethod ({ cls := "PuzzleWedModel", name := "keeps", desc := "(II)Z" } : Jvm.MethodName)) ∈ lw_all := lw_g (lw_at lw_m7 157 rfl) rfl
theorem q1705 : (Jvm.Cond.code ({ cls := "PuzzleWedModel", name := "keeps", desc := "(II)Z" } : Jvm.MethodName) prog_21_method_80_code (5 : Nat) (Option.some Jvm.ClassFile.FieldType.boolean)) ∈ lw_all := lw_g (lw_at lw_m7 158 rfl) rfl
theorem q1707 : (Jvm.Cond.instanceMethod ({ cls := "PuzzleWedModel", name := "unrest", desc := "(I)I" } : Jvm.MethodName)) ∈ lw_all := lw_g (lw_at lw_m7 160 rfl) rfl
theorem q1708 : (Jvm.Cond.selects "PuzzleWedModel" ({ cls := "PuzzleWedModel", name := "unrest", desc := "(I)I" } : Jvm.MethodName) ({ cls := "PuzzleWedModel", name := "unrest", desc := "(I)I" } : Jvm.MethodName)) ∈ lw_all := lw_g (lw_at lw_m7 161 rfl) rfl
theorem q1709 : (Jvm.Cond.code ({ cls := "PuzzleWedModel", name := "unrest", desc := "(I)I" } : Jvm.MethodName) prog_21_method_84_code (6 : Nat) (Option.some Jvm.ClassFile.FieldType.int)) ∈ lw_all := lw_g (lw_at lw_m7 162 rfl) rfl
theorem q1710 : (Jvm.Cond.methodLink "PuzzleWedModel" (355 : Nat) ({ cls := "PuzzleWedModel", name := "likesWed", desc := "(I)I" } : Jvm.MethodName)) ∈ lw_all := lw_g (lw_at lw_m7 163 rfl) rfl
theorem q1711 : (Jvm.Cond.privateMethod ({ cls := "PuzzleWedModel", name := "likesWed", desc := "(I)I" } : Jvm.MethodName)) ∈ lw_tbl := lw_at lw_m7 164 rfl
theorem q1712 : (Jvm.Cond.instanceMethod ({ cls := "PuzzleWedModel", name := "likesWed", desc := "(I)I" } : Jvm.MethodName)) ∈ lw_all := lw_g (lw_at lw_m7 165 rfl) rfl
theorem q1713 : (Jvm.Cond.code ({ cls := "PuzzleWedModel", name := "likesWed", desc := "(I)I" } : Jvm.MethodName) prog_21_method_83_code (2 : Nat) (Option.some Jvm.ClassFile.FieldType.int)) ∈ lw_all := lw_g (lw_at lw_m7 166 rfl) rfl
theorem q1715 : (Jvm.Cond.instanceMethod ({ cls := "PuzzleWedModel", name := "search", desc := "(II)I" } : Jvm.MethodName)) ∈ lw_all := lw_g (lw_at lw_m7 168 rfl) rfl
theorem q1716 : (Jvm.Cond.selects "PuzzleWedModel" ({ cls := "PuzzleWedModel", name := "search", desc := "(II)I" } : Jvm.MethodName) ({ cls := "PuzzleWedModel", name := "search", desc := "(II)I" } : Jvm.MethodName)) ∈ lw_all := lw_g (lw_at lw_m7 169 rfl) rfl
theorem q1717 : (Jvm.Cond.code ({ cls := "PuzzleWedModel", name := "search", desc := "(II)I" } : Jvm.MethodName) prog_21_method_89_code (8 : Nat) (Option.some Jvm.ClassFile.FieldType.int)) ∈ lw_all := lw_g (lw_at lw_m7 170 rfl) rfl
theorem q1718 : (Jvm.Cond.methodLink "PuzzleWedModel" (358 : Nat) ({ cls := "PuzzleWedModel", name := "areBounds", desc := "(I)Z" } : Jvm.MethodName)) ∈ lw_all := lw_g (lw_at lw_m7 171 rfl) rfl
theorem q1719 : (Jvm.Cond.privateMethod ({ cls := "PuzzleWedModel", name := "areBounds", desc := "(I)Z" } : Jvm.MethodName)) ∈ lw_tbl := lw_at lw_m7 172 rfl
theorem q1720 : (Jvm.Cond.instanceMethod ({ cls := "PuzzleWedModel", name := "areBounds", desc := "(I)Z" } : Jvm.MethodName)) ∈ lw_all := lw_g (lw_at lw_m7 173 rfl) rfl
theorem q1721 : (Jvm.Cond.code ({ cls := "PuzzleWedModel", name := "areBounds", desc := "(I)Z" } : Jvm.MethodName) prog_21_method_85_code (5 : Nat) (Option.some Jvm.ClassFile.FieldType.boolean)) ∈ lw_all := lw_g (lw_at lw_m7 174 rfl) rfl
theorem q1722 : (Jvm.Cond.methodLink "PuzzleWedModel" (361 : Nat) ({ cls := "PuzzleWedModel", name := "readsRow", desc := "(II)Z" } : Jvm.MethodName)) ∈ lw_all := lw_g (lw_at lw_m7 175 rfl) rfl
theorem q1723 : (Jvm.Cond.privateMethod ({ cls := "PuzzleWedModel", name := "readsRow", desc := "(II)Z" } : Jvm.MethodName)) ∈ lw_tbl := lw_at lw_m7 176 rfl
theorem q1724 : (Jvm.Cond.instanceMethod ({ cls := "PuzzleWedModel", name := "readsRow", desc := "(II)Z" } : Jvm.MethodName)) ∈ lw_all := lw_g (lw_at lw_m7 177 rfl) rfl
theorem q1725 : (Jvm.Cond.code ({ cls := "PuzzleWedModel", name := "readsRow", desc := "(II)Z" } : Jvm.MethodName) prog_21_method_86_code (6 : Nat) (Option.some Jvm.ClassFile.FieldType.boolean)) ∈ lw_all := lw_g (lw_at lw_m7 178 rfl) rfl
theorem q1726 : (Jvm.Cond.methodLink "PuzzleWedModel" (364 : Nat) ({ cls := "PuzzleWedModel", name := "sumBy", desc := "(I)I" } : Jvm.MethodName)) ∈ lw_all := lw_g (lw_at lw_m7 179 rfl) rfl
theorem q1727 : (Jvm.Cond.privateMethod ({ cls := "PuzzleWedModel", name := "sumBy", desc := "(I)I" } : Jvm.MethodName)) ∈ lw_tbl := lw_at lw_m7 180 rfl
theorem q1728 : (Jvm.Cond.instanceMethod ({ cls := "PuzzleWedModel", name := "sumBy", desc := "(I)I" } : Jvm.MethodName)) ∈ lw_all := lw_g (lw_at lw_m7 181 rfl) rfl
theorem q1729 : (Jvm.Cond.code ({ cls := "PuzzleWedModel", name := "sumBy", desc := "(I)I" } : Jvm.MethodName) prog_21_method_87_code (5 : Nat) (Option.some Jvm.ClassFile.FieldType.int)) ∈ lw_all := lw_g (lw_at lw_m7 182 rfl) rfl
theorem q1730 : (Jvm.Cond.methodLink "PuzzleWedModel" (367 : Nat) ({ cls := "PuzzleWedModel", name := "gcd", desc := "(II)I" } : Jvm.MethodName)) ∈ lw_all := lw_g (lw_at lw_m7 183 rfl) rfl
theorem q1731 : (Jvm.Cond.static ({ cls := "PuzzleWedModel", name := "gcd", desc := "(II)I" } : Jvm.MethodName)) ∈ lw_all := lw_g (lw_at lw_m7 184 rfl) rfl
theorem q1732 : (Jvm.Cond.code ({ cls := "PuzzleWedModel", name := "gcd", desc := "(II)I" } : Jvm.MethodName) prog_21_method_88_code (5 : Nat) (Option.some Jvm.ClassFile.FieldType.int)) ∈ lw_all := lw_g (lw_at lw_m7 185 rfl) rfl
theorem q1734 : (Jvm.Cond.instanceMethod ({ cls := "PuzzleWedModel", name := "sanding", desc := "(IIIIIII)I" } : Jvm.MethodName)) ∈ lw_all := lw_g (lw_at lw_m7 187 rfl) rfl
theorem q1735 : (Jvm.Cond.selects "PuzzleWedModel" ({ cls := "PuzzleWedModel", name := "sanding", desc := "(IIIIIII)I" } : Jvm.MethodName) ({ cls := "PuzzleWedModel", name := "sanding", desc := "(IIIIIII)I" } : Jvm.MethodName)) ∈ lw_all := lw_g (lw_at lw_m7 188 rfl) rfl
theorem q1736 : (Jvm.Cond.code ({ cls := "PuzzleWedModel", name := "sanding", desc := "(IIIIIII)I" } : Jvm.MethodName) prog_21_method_95_code (13 : Nat) (Option.some Jvm.ClassFile.FieldType.int)) ∈ lw_all := lw_g (lw_at lw_m7 189 rfl) rfl
theorem q1737 : (Jvm.Cond.methodLink "PuzzleWedModel" (386 : Nat) ({ cls := "PuzzleWedModel", name := "laysWork", desc := "(I)V" } : Jvm.MethodName)) ∈ lw_all := lw_g (lw_at lw_m7 190 rfl) rfl
theorem q1738 : (Jvm.Cond.privateMethod ({ cls := "PuzzleWedModel", name := "laysWork", desc := "(I)V" } : Jvm.MethodName)) ∈ lw_tbl := lw_at lw_m7 191 rfl
theorem q1739 : (Jvm.Cond.instanceMethod ({ cls := "PuzzleWedModel", name := "laysWork", desc := "(I)V" } : Jvm.MethodName)) ∈ lw_all := lw_g (lw_at lw_m7 192 rfl) rfl
theorem q1740 : (Jvm.Cond.code ({ cls := "PuzzleWedModel", name := "laysWork", desc := "(I)V" } : Jvm.MethodName) prog_21_method_92_code (7 : Nat) (Option.none : Option Jvm.ClassFile.FieldType)) ∈ lw_all := lw_g (lw_at lw_m7 193 rfl) rfl
theorem q1741 : (Jvm.Cond.methodLink "PuzzleWedModel" (382 : Nat) ({ cls := "PuzzleWedModel", name := "workBy", desc := "(IIII)I" } : Jvm.MethodName)) ∈ lw_all := lw_g (lw_at lw_m7 194 rfl) rfl
theorem q1742 : (Jvm.Cond.privateMethod ({ cls := "PuzzleWedModel", name := "workBy", desc := "(IIII)I" } : Jvm.MethodName)) ∈ lw_tbl := lw_at lw_m7 195 rfl
theorem q1743 : (Jvm.Cond.instanceMethod ({ cls := "PuzzleWedModel", name := "workBy", desc := "(IIII)I" } : Jvm.MethodName)) ∈ lw_all := lw_g (lw_at lw_m7 196 rfl) rfl
theorem q1744 : (Jvm.Cond.code ({ cls := "PuzzleWedModel", name := "workBy", desc := "(IIII)I" } : Jvm.MethodName) prog_21_method_91_code (8 : Nat) (Option.some Jvm.ClassFile.FieldType.int)) ∈ lw_all := lw_g (lw_at lw_m7 197 rfl) rfl
theorem q1745 : (Jvm.Cond.methodLink "PuzzleWedModel" (376 : Nat) ({ cls := "PuzzleWedModel", name := "workAt", desc := "(III)I" } : Jvm.MethodName)) ∈ lw_all := lw_g (lw_at lw_m7 198 rfl) rfl
theorem q1746 : (Jvm.Cond.privateMethod ({ cls := "PuzzleWedModel", name := "workAt", desc := "(III)I" } : Jvm.MethodName)) ∈ lw_tbl := lw_at lw_m7 199 rfl
theorem q1747 : (Jvm.Cond.instanceMethod ({ cls := "PuzzleWedModel", name := "workAt", desc := "(III)I" } : Jvm.MethodName)) ∈ lw_all := lw_g (lw_at lw_m7 200 rfl) rfl
theorem q1748 : (Jvm.Cond.code ({ cls := "PuzzleWedModel", name := "workAt", desc := "(III)I" } : Jvm.MethodName) prog_21_method_90_code (4 : Nat) (Option.some Jvm.ClassFile.FieldType.int)) ∈ lw_all := lw_g (lw_at lw_m7 201 rfl) rfl
theorem q1749 : (Jvm.Cond.methodLink "PuzzleWedModel" (389 : Nat) ({ cls := "PuzzleWedModel", name := "laysSanded", desc := "(II)V" } : Jvm.MethodName)) ∈ lw_all := lw_g (lw_at lw_m7 202 rfl) rfl
theorem q1750 : (Jvm.Cond.privateMethod ({ cls := "PuzzleWedModel", name := "laysSanded", desc := "(II)V" } : Jvm.MethodName)) ∈ lw_tbl := lw_at lw_m7 203 rfl
theorem q1751 : (Jvm.Cond.instanceMethod ({ cls := "PuzzleWedModel", name := "laysSanded", desc := "(II)V" } : Jvm.MethodName)) ∈ lw_all := lw_g (lw_at lw_m7 204 rfl) rfl
theorem q1752 : (Jvm.Cond.code ({ cls := "PuzzleWedModel", name := "laysSanded", desc := "(II)V" } : Jvm.MethodName) prog_21_method_93_code (7 : Nat) (Option.none : Option Jvm.ClassFile.FieldType)) ∈ lw_all := lw_g (lw_at lw_m7 205 rfl) rfl
theorem q1753 : (Jvm.Cond.methodLink "PuzzleWedModel" (392 : Nat) ({ cls := "PuzzleWedModel", name := "slackOfSanded", desc := "(I)I" } : Jvm.MethodName)) ∈ lw_all := lw_g (lw_at lw_m7 206 rfl) rfl
theorem q1754 : (Jvm.Cond.privateMethod ({ cls := "PuzzleWedModel", name := "slackOfSanded", desc := "(I)I" } : Jvm.MethodName)) ∈ lw_tbl := lw_at lw_m7 207 rfl
theorem q1755 : (Jvm.Cond.instanceMethod ({ cls := "PuzzleWedModel", name := "slackOfSanded", desc := "(I)I" } : Jvm.MethodName)) ∈ lw_all := lw_g (lw_at lw_m7 208 rfl) rfl
theorem q1756 : (Jvm.Cond.code ({ cls := "PuzzleWedModel", name := "slackOfSanded", desc := "(I)I" } : Jvm.MethodName) prog_21_method_94_code (4 : Nat) (Option.some Jvm.ClassFile.FieldType.int)) ∈ lw_all := lw_g (lw_at lw_m7 209 rfl) rfl
theorem q1758 : (Jvm.Cond.instanceMethod ({ cls := "PuzzleWedModel", name := "steaming", desc := "(IIII)I" } : Jvm.MethodName)) ∈ lw_all := lw_g (lw_at lw_m7 211 rfl) rfl
theorem q1759 : (Jvm.Cond.selects "PuzzleWedModel" ({ cls := "PuzzleWedModel", name := "steaming", desc := "(IIII)I" } : Jvm.MethodName) ({ cls := "PuzzleWedModel", name := "steaming", desc := "(IIII)I" } : Jvm.MethodName)) ∈ lw_all := lw_g (lw_at lw_m7 212 rfl) rfl
theorem q1760 : (Jvm.Cond.code ({ cls := "PuzzleWedModel", name := "steaming", desc := "(IIII)I" } : Jvm.MethodName) prog_21_method_97_code (9 : Nat) (Option.some Jvm.ClassFile.FieldType.int)) ∈ lw_all := lw_g (lw_at lw_m7 213 rfl) rfl
theorem q1761 : (Jvm.Cond.methodLink "PuzzleWedModel" (395 : Nat) ({ cls := "PuzzleWedModel", name := "slackSteamed", desc := "(IIII)I" } : Jvm.MethodName)) ∈ lw_all := lw_g (lw_at lw_m7 214 rfl) rfl
theorem q1762 : (Jvm.Cond.privateMethod ({ cls := "PuzzleWedModel", name := "slackSteamed", desc := "(IIII)I" } : Jvm.MethodName)) ∈ lw_tbl := lw_at lw_m7 215 rfl
theorem q1763 : (Jvm.Cond.instanceMethod ({ cls := "PuzzleWedModel", name := "slackSteamed", desc := "(IIII)I" } : Jvm.MethodName)) ∈ lw_all := lw_g (lw_at lw_m7 216 rfl) rfl
theorem q1764 : (Jvm.Cond.code ({ cls := "PuzzleWedModel", name := "slackSteamed", desc := "(IIII)I" } : Jvm.MethodName) prog_21_method_96_code (8 : Nat) (Option.some Jvm.ClassFile.FieldType.int)) ∈ lw_all := lw_g (lw_at lw_m7 217 rfl) rfl
theorem q1766 : (Jvm.Cond.instanceMethod ({ cls := "PuzzleWedModel", name := "worn", desc := "(II)I" } : Jvm.MethodName)) ∈ lw_all := lw_g (lw_at lw_m7 219 rfl) rfl
theorem q1767 : (Jvm.Cond.selects "PuzzleWedModel" ({ cls := "PuzzleWedModel", name := "worn", desc := "(II)I" } : Jvm.MethodName) ({ cls := "PuzzleWedModel", name := "worn", desc := "(II)I" } : Jvm.MethodName)) ∈ lw_all := lw_g (lw_at lw_m7 220 rfl) rfl
theorem q1768 : (Jvm.Cond.code ({ cls := "PuzzleWedModel", name := "worn", desc := "(II)I" } : Jvm.MethodName) prog_21_method_98_code (8 : Nat) (Option.some Jvm.ClassFile.FieldType.int)) ∈ lw_all := lw_g (lw_at lw_m7 221 rfl) rfl
theorem q1770 : (Jvm.Cond.instanceMethod ({ cls := "PuzzleWedModel", name := "cutter", desc := "(II)I" } : Jvm.MethodName)) ∈ lw_all := lw_g (lw_at lw_m7 223 rfl) rfl
theorem q1771 : (Jvm.Cond.selects "PuzzleWedModel" ({ cls := "PuzzleWedModel", name := "cutter", desc := "(II)I" } : Jvm.MethodName) ({ cls := "PuzzleWedModel", name := "cutter", desc := "(II)I" } : Jvm.MethodName)) ∈ lw_all := lw_g (lw_at lw_m7 224 rfl) rfl
theorem q1772 : (Jvm.Cond.code ({ cls := "PuzzleWedModel", name := "cutter", desc := "(II)I" } : Jvm.MethodName) prog_21_method_101_code (6 : Nat) (Option.some Jvm.ClassFile.FieldType.int)) ∈ lw_all := lw_g (lw_at lw_m7 225 rfl) rfl
theorem q1773 : (Jvm.Cond.methodLink "PuzzleWedModel" (401 : Nat) ({ cls := "PuzzleWedModel", name := "makesAll", desc := "(II)Z" } : Jvm.MethodName)) ∈ lw_all := lw_g (lw_at lw_m7 226 rfl) rfl
theorem q1774 : (Jvm.Cond.privateMethod ({ cls := "PuzzleWedModel", name := "makesAll", desc := "(II)Z" } : Jvm.MethodName)) ∈ lw_tbl := lw_at lw_m7 227 rfl
theorem q1775 : (Jvm.Cond.instanceMethod ({ cls := "PuzzleWedModel", name := "makesAll", desc := "(II)Z" } : Jvm.MethodName)) ∈ lw_all := lw_g (lw_at lw_m7 228 rfl) rfl
theorem q1776 : (Jvm.Cond.code ({ cls := "PuzzleWedModel", name := "makesAll", desc := "(II)Z" } : Jvm.MethodName) prog_21_method_100_code (4 : Nat) (Option.some Jvm.ClassFile.FieldType.boolean)) ∈ lw_all := lw_g (lw_at lw_m7 229 rfl) rfl
theorem q1777 : (Jvm.Cond.methodLink "PuzzleWedModel" (398 : Nat) ({ cls := "PuzzleWedModel", name := "makes", desc := "(III)Z" } : Jvm.MethodName)) ∈ lw_all := lw_g (lw_at lw_m7 230 rfl) rfl
theorem q1778 : (Jvm.Cond.privateMethod ({ cls := "PuzzleWedModel", name := "makes", desc := "(III)Z" } : Jvm.MethodName)) ∈ lw_tbl := lw_at lw_m7 231 rfl
theorem q1779 : (Jvm.Cond.instanceMethod ({ cls := "PuzzleWedModel", name := "makes", desc := "(III)Z" } : Jvm.MethodName)) ∈ lw_all := lw_g (lw_at lw_m7 232 rfl) rfl
theorem q1780 : (Jvm.Cond.code ({ cls := "PuzzleWedModel", name := "makes", desc := "(III)Z" } : Jvm.MethodName) prog_21_method_99_code (8 : Nat) (Option.some Jvm.ClassFile.FieldType.boolean)) ∈ lw_all := lw_g (lw_at lw_m7 233 rfl) rfl
theorem q1782 : (Jvm.Cond.instanceMethod ({ cls := "PuzzleWedModel", name := "copies", desc := "(I)I" } : Jvm.MethodName)) ∈ lw_all := lw_g (lw_at lw_m7 235 rfl) rfl
theorem q1783 : (Jvm.Cond.selects "PuzzleWedModel" ({ cls := "PuzzleWedModel", name := "copies", desc := "(I)I" } : Jvm.MethodName) ({ cls := "PuzzleWedModel", name := "copies", desc := "(I)I" } : Jvm.MethodName)) ∈ lw_all := lw_g (lw_at lw_m7 236 rfl) rfl
theorem q1784 : (Jvm.Cond.code ({ cls := "PuzzleWedModel", name := "copies", desc := "(I)I" } : Jvm.MethodName) prog_21_method_103_code (6 : Nat) (Option.some Jvm.ClassFile.FieldType.int)) ∈ lw_all := lw_g (lw_at lw_m7 237 rfl) rfl
theorem q1785 : (Jvm.Cond.methodLink "PuzzleWedModel" (404 : Nat) ({ cls := "PuzzleWedModel", name := "areSame", desc := "(II)Z" } : Jvm.MethodName)) ∈ lw_all := lw_g (lw_at lw_m7 238 rfl) rfl
theorem q1786 : (Jvm.Cond.privateMethod ({ cls := "PuzzleWedModel", name := "areSame", desc := "(II)Z" } : Jvm.MethodName)) ∈ lw_tbl := lw_at lw_m7 239 rfl
theorem q1787 : (Jvm.Cond.instanceMethod ({ cls := "PuzzleWedModel", name := "areSame", desc := "(II)Z" } : Jvm.MethodName)) ∈ lw_all := lw_g (lw_at lw_m8 0 rfl) rfl
theorem q1788 : (Jvm.Cond.code ({ cls := "PuzzleWedModel", name := "areSame", desc := "(II)Z" } : Jvm.MethodName) prog_21_method_102_code (4 : Nat) (Option.some Jvm.ClassFile.FieldType.boolean)) ∈ lw_all := lw_g (lw_at lw_m8 1 rfl) rfl
theorem q1790 : (Jvm.Cond.instanceMethod ({ cls := "PuzzleWedModel", name := "mate", desc := "(II)I" } : Jvm.MethodName)) ∈ lw_all := lw_g (lw_at lw_m8 3 rfl) rfl
theorem q1791 : (Jvm.Cond.selects "PuzzleWedModel" ({ cls := "PuzzleWedModel", name := "mate", desc := "(II)I" } : Jvm.MethodName) ({ cls := "PuzzleWedModel", name := "mate", desc := "(II)I" } : Jvm.MethodName)) ∈ lw_all := lw_g (lw_at lw_m8 4 rfl) rfl
theorem q1792 : (Jvm.Cond.code ({ cls := "PuzzleWedModel", name := "mate", desc := "(II)I" } : Jvm.MethodName) prog_21_method_104_code (3 : Nat) (Option.some Jvm.ClassFile.FieldType.int)) ∈ lw_all := lw_g (lw_at lw_m8 5 rfl) rfl
theorem q1794 : (Jvm.Cond.instanceMethod ({ cls := "PuzzleWedModel", name := "seed", desc := "(I)Z" } : Jvm.MethodName)) ∈ lw_all := lw_g (lw_at lw_m8 7 rfl) rfl
theorem q1795 : (Jvm.Cond.selects "PuzzleWedModel" ({ cls := "PuzzleWedModel", name := "seed", desc := "(I)Z" } : Jvm.MethodName) ({ cls := "PuzzleWedModel", name := "seed", desc := "(I)Z" } : Jvm.MethodName)) ∈ lw_all := lw_g (lw_at lw_m8 8 rfl) rfl
theorem q1796 : (Jvm.Cond.code ({ cls := "PuzzleWedModel", name := "seed", desc := "(I)Z" } : Jvm.MethodName) prog_21_method_105_code (2 : Nat) (Option.some Jvm.ClassFile.FieldType.boolean)) ∈ lw_all := lw_g (lw_at lw_m8 9 rfl) rfl
theorem q1797 : (Jvm.Cond.constant "PuzzleWedModel" (407 : Nat) (65535 : Int32)) ∈ lw_all := lw_g (lw_at lw_m8 10 rfl) rfl
theorem q1799 : (Jvm.Cond.instanceMethod ({ cls := "PuzzleWedModel", name := "keep", desc := "()I" } : Jvm.MethodName)) ∈ lw_all := lw_g (lw_at lw_m8 12 rfl) rfl
theorem q1800 : (Jvm.Cond.selects "PuzzleWedModel" ({ cls := "PuzzleWedModel", name := "keep", desc := "()I" } : Jvm.MethodName) ({ cls := "PuzzleWedModel", name := "keep", desc := "()I" } : Jvm.MethodName)) ∈ lw_all := lw_g (lw_at lw_m8 13 rfl) rfl
theorem q1801 : (Jvm.Cond.code ({ cls := "PuzzleWedModel", name := "keep", desc := "()I" } : Jvm.MethodName) prog_21_method_106_code (1 : Nat) (Option.some Jvm.ClassFile.FieldType.int)) ∈ lw_all := lw_g (lw_at lw_m8 14 rfl) rfl
theorem q1803 : (Jvm.Cond.instanceMethod ({ cls := "PuzzleWedModel", name := "undo", desc := "()Z" } : Jvm.MethodName)) ∈ lw_all := lw_g (lw_at lw_m8 16 rfl) rfl
theorem q1804 : (Jvm.Cond.selects "PuzzleWedModel" ({ cls := "PuzzleWedModel", name := "undo", desc := "()Z" } : Jvm.MethodName) ({ cls := "PuzzleWedModel", name := "undo", desc := "()Z" } : Jvm.MethodName)) ∈ lw_all := lw_g (lw_at lw_m8 17 rfl) rfl
theorem q1805 : (Jvm.Cond.code ({ cls := "PuzzleWedModel", name := "undo", desc := "()Z" } : Jvm.MethodName) prog_21_method_107_code (1 : Nat) (Option.some Jvm.ClassFile.FieldType.boolean)) ∈ lw_all := lw_g (lw_at lw_m8 18 rfl) rfl
theorem q1807 : (Jvm.Cond.instanceMethod ({ cls := "PuzzleWedModel", name := "check", desc := "(II)I" } : Jvm.MethodName)) ∈ lw_all := lw_g (lw_at lw_m8 20 rfl) rfl
theorem q1808 : (Jvm.Cond.selects "PuzzleWedModel" ({ cls := "PuzzleWedModel", name := "check", desc := "(II)I" } : Jvm.MethodName) ({ cls := "PuzzleWedModel", name := "check", desc := "(II)I" } : Jvm.MethodName)) ∈ lw_all := lw_g (lw_at lw_m8 21 rfl) rfl
theorem q1809 : (Jvm.Cond.code ({ cls := "PuzzleWedModel", name := "check", desc := "(II)I" } : Jvm.MethodName) prog_21_method_108_code (4 : Nat) (Option.some Jvm.ClassFile.FieldType.int)) ∈ lw_all := lw_g (lw_at lw_m8 22 rfl) rfl
theorem q1811 : (Jvm.Cond.instanceMethod ({ cls := "PuzzleWedModel", name := "count", desc := "(I)I" } : Jvm.MethodName)) ∈ lw_all := lw_g (lw_at lw_m8 24 rfl) rfl
theorem q1812 : (Jvm.Cond.selects "PuzzleWedModel" ({ cls := "PuzzleWedModel", name := "count", desc := "(I)I" } : Jvm.MethodName) ({ cls := "PuzzleWedModel", name := "count", desc := "(I)I" } : Jvm.MethodName)) ∈ lw_all := lw_g (lw_at lw_m8 25 rfl) rfl
theorem q1813 : (Jvm.Cond.code ({ cls := "PuzzleWedModel", name := "count", desc := "(I)I" } : Jvm.MethodName) prog_21_method_109_code (4 : Nat) (Option.some Jvm.ClassFile.FieldType.int)) ∈ lw_all := lw_g (lw_at lw_m8 26 rfl) rfl
theorem in_X7 : ∀ w ∈ wsX70, w ∈ lw_all := lw_in wsX70 [1295, 1297, 1299, 1301, 1303, 1305, 1307, 1309, 1311, 1313, 1315, 1317, 1319, 1321, 1323, 1325, 1327, 1329, 1331, 1333, 1335, 1337, 1339, 1341, 1343, 1345, 1347, 1349, 1351, 1353, 1355, 1357, 1359, 1361, 1363, 1365, 1367, 1369, 1371, 1373, 1375, 1377, 1379, 1381, 1383, 1385, 1387] (by decide +kernel) (by decide +kernel)
