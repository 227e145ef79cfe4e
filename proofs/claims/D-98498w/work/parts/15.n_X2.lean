/-! PuzzleWed$Moment -/
set_option maxRecDepth 100000
def RX2 : String := "PuzzleWed$Moment"
def TX2 : u_T := fun k => match k with
  | 0 => ("PuzzleWed$Asked", "isRefused", "Z", false)
  | 1 => ("PuzzleWed$Moment", "land", "LPuzzleWed$Land;", false)
  | 2 => ("PuzzleWed$Moment", "first", "I", false)
  | 3 => ("PuzzleWed$Moment", "second", "I", false)
  | 4 => ("PuzzleWed$Moment", "slack", "I", false)
  | _ => ("PuzzleWed$Moment", "this$0", "LPuzzleWed;", true)
def tyX2 : Nat → FieldType := fun k => match k with
  | 0 => .boolean
  | 1 => .object "PuzzleWed$Land"
  | 2 => .int
  | 3 => .int
  | 4 => .int
  | _ => .object "PuzzleWed"
abbrev wsX20 : List Cond := u_ws RX2 TX2 6
theorem nmX2 : ∀ a, a < 6 → ∀ b, b < 6 → a ≠ b → (TX2 a).2.1 ≠ (TX2 b).2.1 := by decide +kernel
theorem tyX2_ok : ∀ k, k < 6 → parseFieldDescriptor (TX2 k).2.2.1 = some (tyX2 k) := by decide +kernel
abbrev cX2_init : ByteArray := prog_9_method_1_code
def yX2_init : MethodName := ⟨RX2, "<init>", "(LPuzzleWed;)V"⟩
def dkwX2_init_0 : List UInt8 := [42, 43, 181, 0, 1, 42, 183, 0, 7, 177]
abbrev dktX2_init_0 : List UInt8 := dkwX2_init_0 ++ []
theorem dksX2_init_0 : cX2_init.data.toList.drop 0 = dktX2_init_0 := by decide +kernel
theorem dX2_init_0 : decode cX2_init 0 = .ok (.aload_n 0, 1) := dk_42 (dk_at dksX2_init_0 0 rfl rfl)
theorem dX2_init_1 : decode cX2_init 1 = .ok (.aload_n 1, 1) := dk_43 (dk_at dksX2_init_0 1 rfl rfl)
theorem dX2_init_2 : decode cX2_init 2 = .ok (.putfield 1, 3) := dk_181 0 1 (dk_at dksX2_init_0 2 rfl rfl)
theorem dX2_init_5 : decode cX2_init 5 = .ok (.aload_n 0, 1) := dk_42 (dk_at dksX2_init_0 5 rfl rfl)
theorem dX2_init_6 : decode cX2_init 6 = .ok (.invokespecial 7, 3) := dk_183 0 7 (dk_at dksX2_init_0 6 rfl rfl)
theorem dX2_init_9 : decode cX2_init 9 = .ok (.return_, 1) := dk_177 (dk_at dksX2_init_0 9 rfl rfl)
abbrev cX2_of : ByteArray := prog_9_method_2_code
def yX2_of : MethodName := ⟨RX2, "of", "(LPuzzleWed$Land;III)LPuzzleWed$Moment;"⟩
def dkwX2_of_0 : List UInt8 := [42, 43, 181, 0, 13, 42, 28, 181, 0, 17, 42, 29, 181, 0, 21, 42, 21, 4, 181, 0, 24, 42, 176]
abbrev dktX2_of_0 : List UInt8 := dkwX2_of_0 ++ []
theorem dksX2_of_0 : cX2_of.data.toList.drop 0 = dktX2_of_0 := by decide +kernel
theorem dX2_of_0 : decode cX2_of 0 = .ok (.aload_n 0, 1) := dk_42 (dk_at dksX2_of_0 0 rfl rfl)
theorem dX2_of_1 : decode cX2_of 1 = .ok (.aload_n 1, 1) := dk_43 (dk_at dksX2_of_0 1 rfl rfl)
theorem dX2_of_2 : decode cX2_of 2 = .ok (.putfield 13, 3) := dk_181 0 13 (dk_at dksX2_of_0 2 rfl rfl)
theorem dX2_of_5 : decode cX2_of 5 = .ok (.aload_n 0, 1) := dk_42 (dk_at dksX2_of_0 5 rfl rfl)
theorem dX2_of_6 : decode cX2_of 6 = .ok (.iload_n 2, 1) := dk_28 (dk_at dksX2_of_0 6 rfl rfl)
theorem dX2_of_7 : decode cX2_of 7 = .ok (.putfield 17, 3) := dk_181 0 17 (dk_at dksX2_of_0 7 rfl rfl)
theorem dX2_of_10 : decode cX2_of 10 = .ok (.aload_n 0, 1) := dk_42 (dk_at dksX2_of_0 10 rfl rfl)
theorem dX2_of_11 : decode cX2_of 11 = .ok (.iload_n 3, 1) := dk_29 (dk_at dksX2_of_0 11 rfl rfl)
theorem dX2_of_12 : decode cX2_of 12 = .ok (.putfield 21, 3) := dk_181 0 21 (dk_at dksX2_of_0 12 rfl rfl)
theorem dX2_of_15 : decode cX2_of 15 = .ok (.aload_n 0, 1) := dk_42 (dk_at dksX2_of_0 15 rfl rfl)
theorem dX2_of_16 : decode cX2_of 16 = .ok (.iload 4, 2) := dk_21 4 (dk_at dksX2_of_0 16 rfl rfl)
theorem dX2_of_18 : decode cX2_of 18 = .ok (.putfield 24, 3) := dk_181 0 24 (dk_at dksX2_of_0 18 rfl rfl)
theorem dX2_of_21 : decode cX2_of 21 = .ok (.aload_n 0, 1) := dk_42 (dk_at dksX2_of_0 21 rfl rfl)
theorem dX2_of_22 : decode cX2_of 22 = .ok (.areturn, 1) := dk_176 (dk_at dksX2_of_0 22 rfl rfl)
abbrev cX2_tells : ByteArray := prog_9_method_4_code
def yX2_tells : MethodName := ⟨RX2, "tells", "(II)I"⟩
def dkwX2_tells_0 : List UInt8 := [42, 180, 0, 1, 180, 0, 56, 27, 42, 182, 0, 62, 28, 184, 0, 68, 172]
abbrev dktX2_tells_0 : List UInt8 := dkwX2_tells_0 ++ []
theorem dksX2_tells_0 : cX2_tells.data.toList.drop 0 = dktX2_tells_0 := by decide +kernel
theorem dX2_tells_0 : decode cX2_tells 0 = .ok (.aload_n 0, 1) := dk_42 (dk_at dksX2_tells_0 0 rfl rfl)
theorem dX2_tells_1 : decode cX2_tells 1 = .ok (.getfield 1, 3) := dk_180 0 1 (dk_at dksX2_tells_0 1 rfl rfl)
theorem dX2_tells_4 : decode cX2_tells 4 = .ok (.getfield 56, 3) := dk_180 0 56 (dk_at dksX2_tells_0 4 rfl rfl)
theorem dX2_tells_7 : decode cX2_tells 7 = .ok (.iload_n 1, 1) := dk_27 (dk_at dksX2_tells_0 7 rfl rfl)
theorem dX2_tells_8 : decode cX2_tells 8 = .ok (.aload_n 0, 1) := dk_42 (dk_at dksX2_tells_0 8 rfl rfl)
theorem dX2_tells_9 : decode cX2_tells 9 = .ok (.invokevirtual 62, 3) := dk_182 0 62 (dk_at dksX2_tells_0 9 rfl rfl)
theorem dX2_tells_12 : decode cX2_tells 12 = .ok (.iload_n 2, 1) := dk_28 (dk_at dksX2_tells_0 12 rfl rfl)
theorem dX2_tells_13 : decode cX2_tells 13 = .ok (.invokestatic 68, 3) := dk_184 0 68 (dk_at dksX2_tells_0 13 rfl rfl)
theorem dX2_tells_16 : decode cX2_tells 16 = .ok (.ireturn, 1) := dk_172 (dk_at dksX2_tells_0 16 rfl rfl)
abbrev cX2_value : ByteArray := prog_9_method_3_code
def yX2_value : MethodName := ⟨RX2, "value", "(I)I"⟩
def dkwX2_value_6 : List UInt8 := [180, 0, 53, 172, 45, 180, 0, 53, 172]
abbrev dktX2_value_6 : List UInt8 := dkwX2_value_6 ++ []
def dkwX2_value_5 : List UInt8 := [180, 0, 42, 172, 45, 180, 0, 42, 172, 42, 180, 0, 13, 180, 0, 47, 172, 44, 180, 0, 50, 172, 44]
abbrev dktX2_value_5 : List UInt8 := dkwX2_value_5 ++ dktX2_value_6
def dkwX2_value_4 : List UInt8 := [182, 0, 33, 184, 0, 37, 172, 42, 180, 0, 13, 42, 180, 0, 21, 182, 0, 33, 184, 0, 37, 172, 44]
abbrev dktX2_value_4 : List UInt8 := dkwX2_value_4 ++ dktX2_value_5
def dkwX2_value_3 : List UInt8 := [42, 180, 0, 17, 172, 42, 180, 0, 21, 172, 42, 180, 0, 24, 172, 42, 180, 0, 13, 42, 180, 0, 17]
abbrev dktX2_value_3 : List UInt8 := dkwX2_value_3 ++ dktX2_value_4
def dkwX2_value_2 : List UInt8 := [170, 0, 0, 0, 186, 0, 0, 0, 97, 0, 0, 0, 121, 0, 0, 0, 176, 0, 0, 0, 186, 0, 0, 0, 186, 0, 0, 0, 168, 0, 0, 0, 186, 0, 0, 0, 186, 0, 0, 0, 186, 0, 0, 0, 186, 0, 0, 0, 113, 0, 0, 0, 118, 0, 0, 0, 186, 0, 0, 0, 186, 0, 0, 0, 186, 0, 0, 0, 186, 0, 0, 0, 186, 0, 0, 0, 181, 0, 0, 0, 186, 0, 0, 0, 186, 0, 0, 0, 123, 0, 0, 0, 186, 0, 0, 0, 158, 0, 0, 0, 163, 0, 0, 0, 186, 0, 0, 0, 128, 0, 0, 0, 143]
abbrev dktX2_value_2 : List UInt8 := dkwX2_value_2 ++ dktX2_value_3
def dkwX2_value_1 : List UInt8 := [50, 78, 27]
abbrev dktX2_value_1 : List UInt8 := dkwX2_value_1 ++ dktX2_value_2
def dkwX2_value_0 : List UInt8 := [42, 180, 0, 13, 180, 0, 27, 42, 180, 0, 17, 50, 77, 42, 180, 0, 13, 180, 0, 27, 42, 180, 0, 21]
abbrev dktX2_value_0 : List UInt8 := dkwX2_value_0 ++ dktX2_value_1
theorem dksX2_value_0 : cX2_value.data.toList.drop 0 = dktX2_value_0 := by decide +kernel
theorem dksX2_value_1 : cX2_value.data.toList.drop 24 = dktX2_value_1 := dk_seg dksX2_value_0 24 rfl rfl
theorem dksX2_value_2 : cX2_value.data.toList.drop 27 = dktX2_value_2 := dk_seg dksX2_value_1 3 rfl rfl
theorem dksX2_value_3 : cX2_value.data.toList.drop 140 = dktX2_value_3 := dk_seg dksX2_value_2 113 rfl rfl
theorem dksX2_value_4 : cX2_value.data.toList.drop 163 = dktX2_value_4 := dk_seg dksX2_value_3 23 rfl rfl
theorem dksX2_value_5 : cX2_value.data.toList.drop 186 = dktX2_value_5 := dk_seg dksX2_value_4 23 rfl rfl
theorem dksX2_value_6 : cX2_value.data.toList.drop 209 = dktX2_value_6 := dk_seg dksX2_value_5 23 rfl rfl
theorem dX2_value_0 : decode cX2_value 0 = .ok (.aload_n 0, 1) := dk_42 (dk_at dksX2_value_0 0 rfl rfl)
theorem dX2_value_1 : decode cX2_value 1 = .ok (.getfield 13, 3) := dk_180 0 13 (dk_at dksX2_value_0 1 rfl rfl)
theorem dX2_value_4 : decode cX2_value 4 = .ok (.getfield 27, 3) := dk_180 0 27 (dk_at dksX2_value_0 4 rfl rfl)
theorem dX2_value_7 : decode cX2_value 7 = .ok (.aload_n 0, 1) := dk_42 (dk_at dksX2_value_0 7 rfl rfl)
theorem dX2_value_8 : decode cX2_value 8 = .ok (.getfield 17, 3) := dk_180 0 17 (dk_at dksX2_value_0 8 rfl rfl)
theorem dX2_value_11 : decode cX2_value 11 = .ok (.aaload, 1) := dk_50 (dk_at dksX2_value_0 11 rfl rfl)
theorem dX2_value_12 : decode cX2_value 12 = .ok (.astore_n 2, 1) := dk_77 (dk_at dksX2_value_0 12 rfl rfl)
theorem dX2_value_13 : decode cX2_value 13 = .ok (.aload_n 0, 1) := dk_42 (dk_at dksX2_value_0 13 rfl rfl)
theorem dX2_value_14 : decode cX2_value 14 = .ok (.getfield 13, 3) := dk_180 0 13 (dk_at dksX2_value_0 14 rfl rfl)
theorem dX2_value_17 : decode cX2_value 17 = .ok (.getfield 27, 3) := dk_180 0 27 (dk_at dksX2_value_0 17 rfl rfl)
theorem dX2_value_20 : decode cX2_value 20 = .ok (.aload_n 0, 1) := dk_42 (dk_at dksX2_value_0 20 rfl rfl)
theorem dX2_value_21 : decode cX2_value 21 = .ok (.getfield 21, 3) := dk_180 0 21 (dk_at dksX2_value_0 21 rfl rfl)
theorem dX2_value_24 : decode cX2_value 24 = .ok (.aaload, 1) := dk_50 (dk_at dksX2_value_1 0 rfl rfl)
theorem dX2_value_25 : decode cX2_value 25 = .ok (.astore_n 3, 1) := dk_78 (dk_at dksX2_value_1 1 rfl rfl)
theorem dX2_value_26 : decode cX2_value 26 = .ok (.iload_n 1, 1) := dk_27 (dk_at dksX2_value_1 2 rfl rfl)
theorem dX2_value_27 : decode cX2_value 27 = .ok (.tableswitch 186 97 121 #[176, 186, 186, 168, 186, 186, 186, 186, 113, 118, 186, 186, 186, 186, 186, 181, 186, 186, 123, 186, 158, 163, 186, 128, 143], 113) := by decide +kernel
theorem dX2_value_140 : decode cX2_value 140 = .ok (.aload_n 0, 1) := dk_42 (dk_at dksX2_value_3 0 rfl rfl)
theorem dX2_value_141 : decode cX2_value 141 = .ok (.getfield 17, 3) := dk_180 0 17 (dk_at dksX2_value_3 1 rfl rfl)
theorem dX2_value_144 : decode cX2_value 144 = .ok (.ireturn, 1) := dk_172 (dk_at dksX2_value_3 4 rfl rfl)
theorem dX2_value_145 : decode cX2_value 145 = .ok (.aload_n 0, 1) := dk_42 (dk_at dksX2_value_3 5 rfl rfl)
theorem dX2_value_146 : decode cX2_value 146 = .ok (.getfield 21, 3) := dk_180 0 21 (dk_at dksX2_value_3 6 rfl rfl)
theorem dX2_value_149 : decode cX2_value 149 = .ok (.ireturn, 1) := dk_172 (dk_at dksX2_value_3 9 rfl rfl)
theorem dX2_value_150 : decode cX2_value 150 = .ok (.aload_n 0, 1) := dk_42 (dk_at dksX2_value_3 10 rfl rfl)
theorem dX2_value_151 : decode cX2_value 151 = .ok (.getfield 24, 3) := dk_180 0 24 (dk_at dksX2_value_3 11 rfl rfl)
theorem dX2_value_154 : decode cX2_value 154 = .ok (.ireturn, 1) := dk_172 (dk_at dksX2_value_3 14 rfl rfl)
theorem dX2_value_155 : decode cX2_value 155 = .ok (.aload_n 0, 1) := dk_42 (dk_at dksX2_value_3 15 rfl rfl)
theorem dX2_value_156 : decode cX2_value 156 = .ok (.getfield 13, 3) := dk_180 0 13 (dk_at dksX2_value_3 16 rfl rfl)
theorem dX2_value_159 : decode cX2_value 159 = .ok (.aload_n 0, 1) := dk_42 (dk_at dksX2_value_3 19 rfl rfl)
theorem dX2_value_160 : decode cX2_value 160 = .ok (.getfield 17, 3) := dk_180 0 17 (dk_at dksX2_value_3 20 rfl rfl)
theorem dX2_value_163 : decode cX2_value 163 = .ok (.invokevirtual 33, 3) := dk_182 0 33 (dk_at dksX2_value_4 0 rfl rfl)
theorem dX2_value_166 : decode cX2_value 166 = .ok (.invokestatic 37, 3) := dk_184 0 37 (dk_at dksX2_value_4 3 rfl rfl)
theorem dX2_value_169 : decode cX2_value 169 = .ok (.ireturn, 1) := dk_172 (dk_at dksX2_value_4 6 rfl rfl)
theorem dX2_value_170 : decode cX2_value 170 = .ok (.aload_n 0, 1) := dk_42 (dk_at dksX2_value_4 7 rfl rfl)
theorem dX2_value_171 : decode cX2_value 171 = .ok (.getfield 13, 3) := dk_180 0 13 (dk_at dksX2_value_4 8 rfl rfl)
theorem dX2_value_174 : decode cX2_value 174 = .ok (.aload_n 0, 1) := dk_42 (dk_at dksX2_value_4 11 rfl rfl)
theorem dX2_value_175 : decode cX2_value 175 = .ok (.getfield 21, 3) := dk_180 0 21 (dk_at dksX2_value_4 12 rfl rfl)
theorem dX2_value_178 : decode cX2_value 178 = .ok (.invokevirtual 33, 3) := dk_182 0 33 (dk_at dksX2_value_4 15 rfl rfl)
theorem dX2_value_181 : decode cX2_value 181 = .ok (.invokestatic 37, 3) := dk_184 0 37 (dk_at dksX2_value_4 18 rfl rfl)
theorem dX2_value_184 : decode cX2_value 184 = .ok (.ireturn, 1) := dk_172 (dk_at dksX2_value_4 21 rfl rfl)
theorem dX2_value_185 : decode cX2_value 185 = .ok (.aload_n 2, 1) := dk_44 (dk_at dksX2_value_4 22 rfl rfl)
theorem dX2_value_186 : decode cX2_value 186 = .ok (.getfield 42, 3) := dk_180 0 42 (dk_at dksX2_value_5 0 rfl rfl)
theorem dX2_value_189 : decode cX2_value 189 = .ok (.ireturn, 1) := dk_172 (dk_at dksX2_value_5 3 rfl rfl)
theorem dX2_value_190 : decode cX2_value 190 = .ok (.aload_n 3, 1) := dk_45 (dk_at dksX2_value_5 4 rfl rfl)
theorem dX2_value_191 : decode cX2_value 191 = .ok (.getfield 42, 3) := dk_180 0 42 (dk_at dksX2_value_5 5 rfl rfl)
theorem dX2_value_194 : decode cX2_value 194 = .ok (.ireturn, 1) := dk_172 (dk_at dksX2_value_5 8 rfl rfl)
theorem dX2_value_195 : decode cX2_value 195 = .ok (.aload_n 0, 1) := dk_42 (dk_at dksX2_value_5 9 rfl rfl)
theorem dX2_value_196 : decode cX2_value 196 = .ok (.getfield 13, 3) := dk_180 0 13 (dk_at dksX2_value_5 10 rfl rfl)
theorem dX2_value_199 : decode cX2_value 199 = .ok (.getfield 47, 3) := dk_180 0 47 (dk_at dksX2_value_5 13 rfl rfl)
theorem dX2_value_202 : decode cX2_value 202 = .ok (.ireturn, 1) := dk_172 (dk_at dksX2_value_5 16 rfl rfl)
theorem dX2_value_203 : decode cX2_value 203 = .ok (.aload_n 2, 1) := dk_44 (dk_at dksX2_value_5 17 rfl rfl)
theorem dX2_value_204 : decode cX2_value 204 = .ok (.getfield 50, 3) := dk_180 0 50 (dk_at dksX2_value_5 18 rfl rfl)
theorem dX2_value_207 : decode cX2_value 207 = .ok (.ireturn, 1) := dk_172 (dk_at dksX2_value_5 21 rfl rfl)
theorem dX2_value_208 : decode cX2_value 208 = .ok (.aload_n 2, 1) := dk_44 (dk_at dksX2_value_5 22 rfl rfl)
theorem dX2_value_209 : decode cX2_value 209 = .ok (.getfield 53, 3) := dk_180 0 53 (dk_at dksX2_value_6 0 rfl rfl)
theorem dX2_value_212 : decode cX2_value 212 = .ok (.ireturn, 1) := dk_172 (dk_at dksX2_value_6 3 rfl rfl)
theorem dX2_value_213 : decode cX2_value 213 = .ok (.aload_n 3, 1) := dk_45 (dk_at dksX2_value_6 4 rfl rfl)
theorem dX2_value_214 : decode cX2_value 214 = .ok (.getfield 53, 3) := dk_180 0 53 (dk_at dksX2_value_6 5 rfl rfl)
theorem dX2_value_217 : decode cX2_value 217 = .ok (.ireturn, 1) := dk_172 (dk_at dksX2_value_6 8 rfl rfl)
theorem q110 : (Jvm.Cond.initialized "PuzzleWed$Moment") ∈ lw_all := lw_g (lw_at lw_m1 3 rfl) rfl
theorem q144 : (Jvm.Cond.instantiable "PuzzleWed$Moment" (6 : Nat)) ∈ lw_all := lw_g (lw_at lw_m1 37 rfl) rfl
theorem q146 : (Jvm.Cond.instanceMethod ({ cls := "PuzzleWed$Moment", name := "<init>", desc := "(LPuzzleWed;)V" } : Jvm.MethodName)) ∈ lw_all := lw_g (lw_at lw_m1 39 rfl) rfl
theorem q147 : (Jvm.Cond.code ({ cls := "PuzzleWed$Moment", name := "<init>", desc := "(LPuzzleWed;)V" } : Jvm.MethodName) prog_9_method_1_code (2 : Nat) (Option.none : Option Jvm.ClassFile.FieldType)) ∈ lw_all := lw_g (lw_at lw_m1 40 rfl) rfl
theorem q148 : (Jvm.Cond.methodLinkNest "PuzzleWed$Moment" (7 : Nat) ({ cls := "PuzzleWed$Asked", name := "<init>", desc := "()V" } : Jvm.MethodName) "PuzzleWed") ∈ lw_tbl := lw_at lw_m1 41 rfl
theorem q152 : (Jvm.Cond.fieldLink "PuzzleWed$Moment" (13 : Nat) "PuzzleWed$Moment" "land" "LPuzzleWed$Land;") ∈ lw_all := lw_g (lw_at lw_m1 45 rfl) rfl
theorem q153 : (Jvm.Cond.fieldLink "PuzzleWed$Moment" (17 : Nat) "PuzzleWed$Moment" "first" "I") ∈ lw_all := lw_g (lw_at lw_m1 46 rfl) rfl
theorem q154 : (Jvm.Cond.fieldLink "PuzzleWed$Moment" (21 : Nat) "PuzzleWed$Moment" "second" "I") ∈ lw_all := lw_g (lw_at lw_m1 47 rfl) rfl
theorem q155 : (Jvm.Cond.fieldLink "PuzzleWed$Moment" (24 : Nat) "PuzzleWed$Moment" "slack" "I") ∈ lw_all := lw_g (lw_at lw_m1 48 rfl) rfl
theorem q156 : (Jvm.Cond.fieldLink "PuzzleWed$Moment" (1 : Nat) "PuzzleWed$Moment" "this$0" "LPuzzleWed;") ∈ lw_all := lw_g (lw_at lw_m1 49 rfl) rfl
theorem q160 : (Jvm.Cond.lays "PuzzleWed$Moment" "PuzzleWed$Moment" "land" "LPuzzleWed$Land;") ∈ lw_all := lw_g (lw_at lw_m1 53 rfl) rfl
theorem q161 : (Jvm.Cond.soleField "PuzzleWed$Moment" "land") ∈ lw_all := lw_g (lw_at lw_m1 54 rfl) rfl
theorem q162 : (Jvm.Cond.lays "PuzzleWed$Moment" "PuzzleWed$Moment" "first" "I") ∈ lw_all := lw_g (lw_at lw_m1 55 rfl) rfl
theorem q163 : (Jvm.Cond.soleField "PuzzleWed$Moment" "first") ∈ lw_all := lw_g (lw_at lw_m1 56 rfl) rfl
theorem q164 : (Jvm.Cond.lays "PuzzleWed$Moment" "PuzzleWed$Moment" "second" "I") ∈ lw_all := lw_g (lw_at lw_m1 57 rfl) rfl
theorem q165 : (Jvm.Cond.soleField "PuzzleWed$Moment" "second") ∈ lw_all := lw_g (lw_at lw_m1 58 rfl) rfl
theorem q166 : (Jvm.Cond.lays "PuzzleWed$Moment" "PuzzleWed$Moment" "slack" "I") ∈ lw_all := lw_g (lw_at lw_m1 59 rfl) rfl
theorem q167 : (Jvm.Cond.soleField "PuzzleWed$Moment" "slack") ∈ lw_all := lw_g (lw_at lw_m1 60 rfl) rfl
theorem q168 : (Jvm.Cond.laysFinal "PuzzleWed$Moment" "PuzzleWed$Moment" "this$0" "LPuzzleWed;") ∈ lw_all := lw_g (lw_at lw_m1 61 rfl) rfl
theorem q169 : (Jvm.Cond.soleField "PuzzleWed$Moment" "this$0") ∈ lw_all := lw_g (lw_at lw_m1 62 rfl) rfl
theorem q170 : (Jvm.Cond.lays "PuzzleWed$Moment" "PuzzleWed$Asked" "isRefused" "Z") ∈ lw_all := lw_g (lw_at lw_m1 63 rfl) rfl
theorem q172 : (Jvm.Cond.superclass "PuzzleWed$Moment" "PuzzleWed$Asked") ∈ lw_all := lw_g (lw_at lw_m1 65 rfl) rfl
theorem q192 : (Jvm.Cond.fieldLinkNest "PuzzleWed$Moment" (53 : Nat) "PuzzleWed$Person" "side" "I" "PuzzleWed") ∈ lw_tbl := lw_at lw_m1 85 rfl
theorem q196 : (Jvm.Cond.fieldLinkNest "PuzzleWed$Moment" (42 : Nat) "PuzzleWed$Person" "town" "I" "PuzzleWed") ∈ lw_tbl := lw_at lw_m1 89 rfl
theorem q203 : (Jvm.Cond.fieldLinkNest "PuzzleWed$Moment" (50 : Nat) "PuzzleWed$Person" "creaks" "I" "PuzzleWed") ∈ lw_tbl := lw_at lw_m1 96 rfl
theorem q262 : (Jvm.Cond.fieldLinkNest "PuzzleWed$Moment" (27 : Nat) "PuzzleWed$Land" "people" "[LPuzzleWed$Person;" "PuzzleWed") ∈ lw_tbl := lw_at lw_m1 155 rfl
theorem q267 : (Jvm.Cond.fieldLinkNest "PuzzleWed$Moment" (47 : Nat) "PuzzleWed$Land" "day" "I" "PuzzleWed") ∈ lw_tbl := lw_at lw_m1 160 rfl
theorem q338 : (Jvm.Cond.fieldLinkNest "PuzzleWed$Moment" (56 : Nat) "PuzzleWed" "law" "LPuzzleWed$Text;" "PuzzleWed") ∈ lw_tbl := lw_at lw_m1 231 rfl
theorem q958 : (Jvm.Cond.instanceMethod ({ cls := "PuzzleWed$Moment", name := "of", desc := "(LPuzzleWed$Land;III)LPuzzleWed$Moment;" } : Jvm.MethodName)) ∈ lw_all := lw_g (lw_at lw_m4 131 rfl) rfl
theorem q959 : (Jvm.Cond.selects "PuzzleWed$Moment" ({ cls := "PuzzleWed$Moment", name := "of", desc := "(LPuzzleWed$Land;III)LPuzzleWed$Moment;" } : Jvm.MethodName) ({ cls := "PuzzleWed$Moment", name := "of", desc := "(LPuzzleWed$Land;III)LPuzzleWed$Moment;" } : Jvm.MethodName)) ∈ lw_all := lw_g (lw_at lw_m4 132 rfl) rfl
theorem q960 : (Jvm.Cond.code ({ cls := "PuzzleWed$Moment", name := "of", desc := "(LPuzzleWed$Land;III)LPuzzleWed$Moment;" } : Jvm.MethodName) prog_9_method_2_code (5 : Nat) (Option.some (Jvm.ClassFile.FieldType.object "PuzzleWed$Moment"))) ∈ lw_all := lw_g (lw_at lw_m4 133 rfl) rfl
theorem q962 : (Jvm.Cond.instanceMethod ({ cls := "PuzzleWed$Moment", name := "tells", desc := "(II)I" } : Jvm.MethodName)) ∈ lw_all := lw_g (lw_at lw_m4 135 rfl) rfl
theorem q963 : (Jvm.Cond.selects "PuzzleWed$Moment" ({ cls := "PuzzleWed$Moment", name := "tells", desc := "(II)I" } : Jvm.MethodName) ({ cls := "PuzzleWed$Moment", name := "tells", desc := "(II)I" } : Jvm.MethodName)) ∈ lw_all := lw_g (lw_at lw_m4 136 rfl) rfl
theorem q964 : (Jvm.Cond.code ({ cls := "PuzzleWed$Moment", name := "tells", desc := "(II)I" } : Jvm.MethodName) prog_9_method_4_code (3 : Nat) (Option.some Jvm.ClassFile.FieldType.int)) ∈ lw_all := lw_g (lw_at lw_m4 137 rfl) rfl
theorem q965 : (Jvm.Cond.methodLink "PuzzleWed$Moment" (62 : Nat) ({ cls := "PuzzleWed$Text", name := "tells", desc := "(ILPuzzleWed$Asked;)I" } : Jvm.MethodName)) ∈ lw_all := lw_g (lw_at lw_m4 138 rfl) rfl
theorem q984 : (Jvm.Cond.selects "PuzzleWed$Moment" ({ cls := "PuzzleWed$Asked", name := "value", desc := "(I)I" } : Jvm.MethodName) ({ cls := "PuzzleWed$Moment", name := "value", desc := "(I)I" } : Jvm.MethodName)) ∈ lw_all := lw_g (lw_at lw_m4 157 rfl) rfl
theorem q985 : (Jvm.Cond.instanceMethod ({ cls := "PuzzleWed$Moment", name := "value", desc := "(I)I" } : Jvm.MethodName)) ∈ lw_all := lw_g (lw_at lw_m4 158 rfl) rfl
theorem q986 : (Jvm.Cond.code ({ cls := "PuzzleWed$Moment", name := "value", desc := "(I)I" } : Jvm.MethodName) prog_9_method_3_code (4 : Nat) (Option.some Jvm.ClassFile.FieldType.int)) ∈ lw_all := lw_g (lw_at lw_m4 159 rfl) rfl
theorem q987 : (Jvm.Cond.methodLink "PuzzleWed$Moment" (33 : Nat) ({ cls := "PuzzleWed$Land", name := "holds", desc := "(I)I" } : Jvm.MethodName)) ∈ lw_all := lw_g (lw_at lw_m4 160 rfl) rfl
theorem q991 : (Jvm.Cond.methodLink "PuzzleWed$Moment" (37 : Nat) ({ cls := "java/lang/Integer", name := "bitCount", desc := "(I)I" } : Jvm.MethodName)) ∈ lw_all := lw_g (lw_at lw_m4 164 rfl) rfl
theorem q1023 : (Jvm.Cond.methodLinkNest "PuzzleWed$Moment" (68 : Nat) ({ cls := "PuzzleWed", name := "held", desc := "(II)I" } : Jvm.MethodName) "PuzzleWed") ∈ lw_tbl := lw_at lw_m4 196 rfl
theorem in_X2 : ∀ w ∈ wsX20, w ∈ lw_all := lw_in wsX20 [170, 160, 162, 164, 166, 168] (by decide +kernel) (by decide +kernel)
