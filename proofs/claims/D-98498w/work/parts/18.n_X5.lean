/-! PuzzleWed$Piece -/
set_option maxRecDepth 100000
def RX5 : String := "PuzzleWed$Piece"
def TX5 : u_T := fun k => match k with
  | 0 => ("PuzzleWed$Piece", "heights", "[I", true)
  | 1 => ("PuzzleWed$Piece", "wear", "I", false)
  | _ => ("PuzzleWed$Piece", "holder", "I", false)
def tyX5 : Nat → FieldType := fun k => match k with
  | 0 => .array .int
  | 1 => .int
  | _ => .int
abbrev wsX50 : List Cond := u_ws RX5 TX5 3
theorem nmX5 : ∀ a, a < 3 → ∀ b, b < 3 → a ≠ b → (TX5 a).2.1 ≠ (TX5 b).2.1 := by decide +kernel
theorem tyX5_ok : ∀ k, k < 3 → parseFieldDescriptor (TX5 k).2.2.1 = some (tyX5 k) := by decide +kernel
abbrev cX5_init : ByteArray := prog_13_method_1_code
def yX5_init : MethodName := ⟨RX5, "<init>", "()V"⟩
def dkwX5_init_0 : List UInt8 := [42, 183, 0, 3, 42, 16, 8, 188, 10, 181, 0, 9, 177]
abbrev dktX5_init_0 : List UInt8 := dkwX5_init_0 ++ []
theorem dksX5_init_0 : cX5_init.data.toList.drop 0 = dktX5_init_0 := by decide +kernel
theorem dX5_init_0 : decode cX5_init 0 = .ok (.aload_n 0, 1) := dk_42 (dk_at dksX5_init_0 0 rfl rfl)
theorem dX5_init_1 : decode cX5_init 1 = .ok (.invokespecial 3, 3) := dk_183 0 3 (dk_at dksX5_init_0 1 rfl rfl)
theorem dX5_init_4 : decode cX5_init 4 = .ok (.aload_n 0, 1) := dk_42 (dk_at dksX5_init_0 4 rfl rfl)
theorem dX5_init_5 : decode cX5_init 5 = .ok (.bipush 8, 2) := dk_16 8 (dk_at dksX5_init_0 5 rfl rfl)
theorem dX5_init_7 : decode cX5_init 7 = .ok (.newarray .int, 2) := dk_188_10 (dk_at dksX5_init_0 7 rfl rfl)
theorem dX5_init_9 : decode cX5_init 9 = .ok (.putfield 9, 3) := dk_181 0 9 (dk_at dksX5_init_0 9 rfl rfl)
theorem dX5_init_12 : decode cX5_init 12 = .ok (.return_, 1) := dk_177 (dk_at dksX5_init_0 12 rfl rfl)
abbrev cX5_slack : ByteArray := prog_13_method_4_code
def yX5_slack : MethodName := ⟨RX5, "slack", "(LPuzzleWed$Piece;)I"⟩
def dkwX5_slack_0 : List UInt8 := [3, 42, 43, 182, 0, 28, 42, 180, 0, 15, 100, 43, 180, 0, 15, 100, 184, 0, 32, 172]
abbrev dktX5_slack_0 : List UInt8 := dkwX5_slack_0 ++ []
theorem dksX5_slack_0 : cX5_slack.data.toList.drop 0 = dktX5_slack_0 := by decide +kernel
theorem dX5_slack_0 : decode cX5_slack 0 = .ok (.iconst 0, 1) := dk_3 (dk_at dksX5_slack_0 0 rfl rfl)
theorem dX5_slack_1 : decode cX5_slack 1 = .ok (.aload_n 0, 1) := dk_42 (dk_at dksX5_slack_0 1 rfl rfl)
theorem dX5_slack_2 : decode cX5_slack 2 = .ok (.aload_n 1, 1) := dk_43 (dk_at dksX5_slack_0 2 rfl rfl)
theorem dX5_slack_3 : decode cX5_slack 3 = .ok (.invokevirtual 28, 3) := dk_182 0 28 (dk_at dksX5_slack_0 3 rfl rfl)
theorem dX5_slack_6 : decode cX5_slack 6 = .ok (.aload_n 0, 1) := dk_42 (dk_at dksX5_slack_0 6 rfl rfl)
theorem dX5_slack_7 : decode cX5_slack 7 = .ok (.getfield 15, 3) := dk_180 0 15 (dk_at dksX5_slack_0 7 rfl rfl)
theorem dX5_slack_10 : decode cX5_slack 10 = .ok (.isub, 1) := dk_100 (dk_at dksX5_slack_0 10 rfl rfl)
theorem dX5_slack_11 : decode cX5_slack 11 = .ok (.aload_n 1, 1) := dk_43 (dk_at dksX5_slack_0 11 rfl rfl)
theorem dX5_slack_12 : decode cX5_slack 12 = .ok (.getfield 15, 3) := dk_180 0 15 (dk_at dksX5_slack_0 12 rfl rfl)
theorem dX5_slack_15 : decode cX5_slack 15 = .ok (.isub, 1) := dk_100 (dk_at dksX5_slack_0 15 rfl rfl)
theorem dX5_slack_16 : decode cX5_slack 16 = .ok (.invokestatic 32, 3) := dk_184 0 32 (dk_at dksX5_slack_0 16 rfl rfl)
theorem dX5_slack_19 : decode cX5_slack 19 = .ok (.ireturn, 1) := dk_172 (dk_at dksX5_slack_0 19 rfl rfl)
abbrev cX5_gap : ByteArray := prog_13_method_3_code
def yX5_gap : MethodName := ⟨RX5, "gap", "(LPuzzleWed$Piece;)I"⟩
def dkwX5_gap_1 : List UInt8 := [100, 46, 96, 184, 0, 22, 96, 61, 132, 3, 1, 167, 255, 225, 28, 172]
abbrev dktX5_gap_1 : List UInt8 := dkwX5_gap_1 ++ []
def dkwX5_gap_0 : List UInt8 := [3, 61, 3, 62, 29, 16, 8, 162, 0, 31, 28, 42, 180, 0, 9, 29, 46, 43, 180, 0, 9, 16, 7, 29]
abbrev dktX5_gap_0 : List UInt8 := dkwX5_gap_0 ++ dktX5_gap_1
theorem dksX5_gap_0 : cX5_gap.data.toList.drop 0 = dktX5_gap_0 := by decide +kernel
theorem dksX5_gap_1 : cX5_gap.data.toList.drop 24 = dktX5_gap_1 := dk_seg dksX5_gap_0 24 rfl rfl
theorem dX5_gap_0 : decode cX5_gap 0 = .ok (.iconst 0, 1) := dk_3 (dk_at dksX5_gap_0 0 rfl rfl)
theorem dX5_gap_1 : decode cX5_gap 1 = .ok (.istore_n 2, 1) := dk_61 (dk_at dksX5_gap_0 1 rfl rfl)
theorem dX5_gap_2 : decode cX5_gap 2 = .ok (.iconst 0, 1) := dk_3 (dk_at dksX5_gap_0 2 rfl rfl)
theorem dX5_gap_3 : decode cX5_gap 3 = .ok (.istore_n 3, 1) := dk_62 (dk_at dksX5_gap_0 3 rfl rfl)
theorem dX5_gap_4 : decode cX5_gap 4 = .ok (.iload_n 3, 1) := dk_29 (dk_at dksX5_gap_0 4 rfl rfl)
theorem dX5_gap_5 : decode cX5_gap 5 = .ok (.bipush 8, 2) := dk_16 8 (dk_at dksX5_gap_0 5 rfl rfl)
theorem dX5_gap_7 : decode cX5_gap 7 = .ok (.if_icmp .ge 31, 3) := dk_162 0 31 (dk_at dksX5_gap_0 7 rfl rfl)
theorem dX5_gap_10 : decode cX5_gap 10 = .ok (.iload_n 2, 1) := dk_28 (dk_at dksX5_gap_0 10 rfl rfl)
theorem dX5_gap_11 : decode cX5_gap 11 = .ok (.aload_n 0, 1) := dk_42 (dk_at dksX5_gap_0 11 rfl rfl)
theorem dX5_gap_12 : decode cX5_gap 12 = .ok (.getfield 9, 3) := dk_180 0 9 (dk_at dksX5_gap_0 12 rfl rfl)
theorem dX5_gap_15 : decode cX5_gap 15 = .ok (.iload_n 3, 1) := dk_29 (dk_at dksX5_gap_0 15 rfl rfl)
theorem dX5_gap_16 : decode cX5_gap 16 = .ok (.iaload, 1) := dk_46 (dk_at dksX5_gap_0 16 rfl rfl)
theorem dX5_gap_17 : decode cX5_gap 17 = .ok (.aload_n 1, 1) := dk_43 (dk_at dksX5_gap_0 17 rfl rfl)
theorem dX5_gap_18 : decode cX5_gap 18 = .ok (.getfield 9, 3) := dk_180 0 9 (dk_at dksX5_gap_0 18 rfl rfl)
theorem dX5_gap_21 : decode cX5_gap 21 = .ok (.bipush 7, 2) := dk_16 7 (dk_at dksX5_gap_0 21 rfl rfl)
theorem dX5_gap_23 : decode cX5_gap 23 = .ok (.iload_n 3, 1) := dk_29 (dk_at dksX5_gap_0 23 rfl rfl)
theorem dX5_gap_24 : decode cX5_gap 24 = .ok (.isub, 1) := dk_100 (dk_at dksX5_gap_1 0 rfl rfl)
theorem dX5_gap_25 : decode cX5_gap 25 = .ok (.iaload, 1) := dk_46 (dk_at dksX5_gap_1 1 rfl rfl)
theorem dX5_gap_26 : decode cX5_gap 26 = .ok (.iadd, 1) := dk_96 (dk_at dksX5_gap_1 2 rfl rfl)
theorem dX5_gap_27 : decode cX5_gap 27 = .ok (.invokestatic 22, 3) := dk_184 0 22 (dk_at dksX5_gap_1 3 rfl rfl)
theorem dX5_gap_30 : decode cX5_gap 30 = .ok (.iadd, 1) := dk_96 (dk_at dksX5_gap_1 6 rfl rfl)
theorem dX5_gap_31 : decode cX5_gap 31 = .ok (.istore_n 2, 1) := dk_61 (dk_at dksX5_gap_1 7 rfl rfl)
theorem dX5_gap_32 : decode cX5_gap 32 = .ok (.iinc 3 1, 3) := dk_132 3 1 (dk_at dksX5_gap_1 8 rfl rfl)
theorem dX5_gap_35 : decode cX5_gap 35 = .ok (.goto (-31), 3) := dk_167 255 225 (dk_at dksX5_gap_1 11 rfl rfl)
theorem dX5_gap_38 : decode cX5_gap 38 = .ok (.iload_n 2, 1) := dk_28 (dk_at dksX5_gap_1 14 rfl rfl)
theorem dX5_gap_39 : decode cX5_gap 39 = .ok (.ireturn, 1) := dk_172 (dk_at dksX5_gap_1 15 rfl rfl)
abbrev cX5_wears : ByteArray := prog_13_method_6_code
def yX5_wears : MethodName := ⟨RX5, "wears", "(I)V"⟩
def dkwX5_wears_0 : List UInt8 := [42, 16, 99, 42, 180, 0, 15, 27, 96, 184, 0, 36, 181, 0, 15, 177]
abbrev dktX5_wears_0 : List UInt8 := dkwX5_wears_0 ++ []
theorem dksX5_wears_0 : cX5_wears.data.toList.drop 0 = dktX5_wears_0 := by decide +kernel
theorem dX5_wears_0 : decode cX5_wears 0 = .ok (.aload_n 0, 1) := dk_42 (dk_at dksX5_wears_0 0 rfl rfl)
theorem dX5_wears_1 : decode cX5_wears 1 = .ok (.bipush 99, 2) := dk_16 99 (dk_at dksX5_wears_0 1 rfl rfl)
theorem dX5_wears_3 : decode cX5_wears 3 = .ok (.aload_n 0, 1) := dk_42 (dk_at dksX5_wears_0 3 rfl rfl)
theorem dX5_wears_4 : decode cX5_wears 4 = .ok (.getfield 15, 3) := dk_180 0 15 (dk_at dksX5_wears_0 4 rfl rfl)
theorem dX5_wears_7 : decode cX5_wears 7 = .ok (.iload_n 1, 1) := dk_27 (dk_at dksX5_wears_0 7 rfl rfl)
theorem dX5_wears_8 : decode cX5_wears 8 = .ok (.iadd, 1) := dk_96 (dk_at dksX5_wears_0 8 rfl rfl)
theorem dX5_wears_9 : decode cX5_wears 9 = .ok (.invokestatic 36, 3) := dk_184 0 36 (dk_at dksX5_wears_0 9 rfl rfl)
theorem dX5_wears_12 : decode cX5_wears 12 = .ok (.putfield 15, 3) := dk_181 0 15 (dk_at dksX5_wears_0 12 rfl rfl)
theorem dX5_wears_15 : decode cX5_wears 15 = .ok (.return_, 1) := dk_177 (dk_at dksX5_wears_0 15 rfl rfl)
abbrev cX5_takes : ByteArray := prog_13_method_2_code
def yX5_takes : MethodName := ⟨RX5, "takes", "(LPuzzleWed$Piece;)V"⟩
def dkwX5_takes_1 : List UInt8 := [167, 255, 235, 42, 43, 180, 0, 15, 181, 0, 15, 42, 43, 180, 0, 19, 181, 0, 19, 177]
abbrev dktX5_takes_1 : List UInt8 := dkwX5_takes_1 ++ []
def dkwX5_takes_0 : List UInt8 := [3, 61, 28, 16, 8, 162, 0, 21, 42, 180, 0, 9, 28, 43, 180, 0, 9, 28, 46, 79, 132, 2, 1]
abbrev dktX5_takes_0 : List UInt8 := dkwX5_takes_0 ++ dktX5_takes_1
theorem dksX5_takes_0 : cX5_takes.data.toList.drop 0 = dktX5_takes_0 := by decide +kernel
theorem dksX5_takes_1 : cX5_takes.data.toList.drop 23 = dktX5_takes_1 := dk_seg dksX5_takes_0 23 rfl rfl
theorem dX5_takes_0 : decode cX5_takes 0 = .ok (.iconst 0, 1) := dk_3 (dk_at dksX5_takes_0 0 rfl rfl)
theorem dX5_takes_1 : decode cX5_takes 1 = .ok (.istore_n 2, 1) := dk_61 (dk_at dksX5_takes_0 1 rfl rfl)
theorem dX5_takes_2 : decode cX5_takes 2 = .ok (.iload_n 2, 1) := dk_28 (dk_at dksX5_takes_0 2 rfl rfl)
theorem dX5_takes_3 : decode cX5_takes 3 = .ok (.bipush 8, 2) := dk_16 8 (dk_at dksX5_takes_0 3 rfl rfl)
theorem dX5_takes_5 : decode cX5_takes 5 = .ok (.if_icmp .ge 21, 3) := dk_162 0 21 (dk_at dksX5_takes_0 5 rfl rfl)
theorem dX5_takes_8 : decode cX5_takes 8 = .ok (.aload_n 0, 1) := dk_42 (dk_at dksX5_takes_0 8 rfl rfl)
theorem dX5_takes_9 : decode cX5_takes 9 = .ok (.getfield 9, 3) := dk_180 0 9 (dk_at dksX5_takes_0 9 rfl rfl)
theorem dX5_takes_12 : decode cX5_takes 12 = .ok (.iload_n 2, 1) := dk_28 (dk_at dksX5_takes_0 12 rfl rfl)
theorem dX5_takes_13 : decode cX5_takes 13 = .ok (.aload_n 1, 1) := dk_43 (dk_at dksX5_takes_0 13 rfl rfl)
theorem dX5_takes_14 : decode cX5_takes 14 = .ok (.getfield 9, 3) := dk_180 0 9 (dk_at dksX5_takes_0 14 rfl rfl)
theorem dX5_takes_17 : decode cX5_takes 17 = .ok (.iload_n 2, 1) := dk_28 (dk_at dksX5_takes_0 17 rfl rfl)
theorem dX5_takes_18 : decode cX5_takes 18 = .ok (.iaload, 1) := dk_46 (dk_at dksX5_takes_0 18 rfl rfl)
theorem dX5_takes_19 : decode cX5_takes 19 = .ok (.iastore, 1) := dk_79 (dk_at dksX5_takes_0 19 rfl rfl)
theorem dX5_takes_20 : decode cX5_takes 20 = .ok (.iinc 2 1, 3) := dk_132 2 1 (dk_at dksX5_takes_0 20 rfl rfl)
theorem dX5_takes_23 : decode cX5_takes 23 = .ok (.goto (-21), 3) := dk_167 255 235 (dk_at dksX5_takes_1 0 rfl rfl)
theorem dX5_takes_26 : decode cX5_takes 26 = .ok (.aload_n 0, 1) := dk_42 (dk_at dksX5_takes_1 3 rfl rfl)
theorem dX5_takes_27 : decode cX5_takes 27 = .ok (.aload_n 1, 1) := dk_43 (dk_at dksX5_takes_1 4 rfl rfl)
theorem dX5_takes_28 : decode cX5_takes 28 = .ok (.getfield 15, 3) := dk_180 0 15 (dk_at dksX5_takes_1 5 rfl rfl)
theorem dX5_takes_31 : decode cX5_takes 31 = .ok (.putfield 15, 3) := dk_181 0 15 (dk_at dksX5_takes_1 8 rfl rfl)
theorem dX5_takes_34 : decode cX5_takes 34 = .ok (.aload_n 0, 1) := dk_42 (dk_at dksX5_takes_1 11 rfl rfl)
theorem dX5_takes_35 : decode cX5_takes 35 = .ok (.aload_n 1, 1) := dk_43 (dk_at dksX5_takes_1 12 rfl rfl)
theorem dX5_takes_36 : decode cX5_takes 36 = .ok (.getfield 19, 3) := dk_180 0 19 (dk_at dksX5_takes_1 13 rfl rfl)
theorem dX5_takes_39 : decode cX5_takes 39 = .ok (.putfield 19, 3) := dk_181 0 19 (dk_at dksX5_takes_1 16 rfl rfl)
theorem dX5_takes_42 : decode cX5_takes 42 = .ok (.return_, 1) := dk_177 (dk_at dksX5_takes_1 19 rfl rfl)
abbrev cX5_isLike : ByteArray := prog_13_method_5_code
def yX5_isLike : MethodName := ⟨RX5, "isLike", "(LPuzzleWed$Piece;)Z"⟩
def dkwX5_isLike_1 : List UInt8 := [172, 132, 2, 1, 167, 255, 230, 4, 172]
abbrev dktX5_isLike_1 : List UInt8 := dkwX5_isLike_1 ++ []
def dkwX5_isLike_0 : List UInt8 := [3, 61, 28, 16, 8, 162, 0, 26, 42, 180, 0, 9, 28, 46, 43, 180, 0, 9, 28, 46, 159, 0, 5, 3]
abbrev dktX5_isLike_0 : List UInt8 := dkwX5_isLike_0 ++ dktX5_isLike_1
theorem dksX5_isLike_0 : cX5_isLike.data.toList.drop 0 = dktX5_isLike_0 := by decide +kernel
theorem dksX5_isLike_1 : cX5_isLike.data.toList.drop 24 = dktX5_isLike_1 := dk_seg dksX5_isLike_0 24 rfl rfl
theorem dX5_isLike_0 : decode cX5_isLike 0 = .ok (.iconst 0, 1) := dk_3 (dk_at dksX5_isLike_0 0 rfl rfl)
theorem dX5_isLike_1 : decode cX5_isLike 1 = .ok (.istore_n 2, 1) := dk_61 (dk_at dksX5_isLike_0 1 rfl rfl)
theorem dX5_isLike_2 : decode cX5_isLike 2 = .ok (.iload_n 2, 1) := dk_28 (dk_at dksX5_isLike_0 2 rfl rfl)
theorem dX5_isLike_3 : decode cX5_isLike 3 = .ok (.bipush 8, 2) := dk_16 8 (dk_at dksX5_isLike_0 3 rfl rfl)
theorem dX5_isLike_5 : decode cX5_isLike 5 = .ok (.if_icmp .ge 26, 3) := dk_162 0 26 (dk_at dksX5_isLike_0 5 rfl rfl)
theorem dX5_isLike_8 : decode cX5_isLike 8 = .ok (.aload_n 0, 1) := dk_42 (dk_at dksX5_isLike_0 8 rfl rfl)
theorem dX5_isLike_9 : decode cX5_isLike 9 = .ok (.getfield 9, 3) := dk_180 0 9 (dk_at dksX5_isLike_0 9 rfl rfl)
theorem dX5_isLike_12 : decode cX5_isLike 12 = .ok (.iload_n 2, 1) := dk_28 (dk_at dksX5_isLike_0 12 rfl rfl)
theorem dX5_isLike_13 : decode cX5_isLike 13 = .ok (.iaload, 1) := dk_46 (dk_at dksX5_isLike_0 13 rfl rfl)
theorem dX5_isLike_14 : decode cX5_isLike 14 = .ok (.aload_n 1, 1) := dk_43 (dk_at dksX5_isLike_0 14 rfl rfl)
theorem dX5_isLike_15 : decode cX5_isLike 15 = .ok (.getfield 9, 3) := dk_180 0 9 (dk_at dksX5_isLike_0 15 rfl rfl)
theorem dX5_isLike_18 : decode cX5_isLike 18 = .ok (.iload_n 2, 1) := dk_28 (dk_at dksX5_isLike_0 18 rfl rfl)
theorem dX5_isLike_19 : decode cX5_isLike 19 = .ok (.iaload, 1) := dk_46 (dk_at dksX5_isLike_0 19 rfl rfl)
theorem dX5_isLike_20 : decode cX5_isLike 20 = .ok (.if_icmp .eq 5, 3) := dk_159 0 5 (dk_at dksX5_isLike_0 20 rfl rfl)
theorem dX5_isLike_23 : decode cX5_isLike 23 = .ok (.iconst 0, 1) := dk_3 (dk_at dksX5_isLike_0 23 rfl rfl)
theorem dX5_isLike_24 : decode cX5_isLike 24 = .ok (.ireturn, 1) := dk_172 (dk_at dksX5_isLike_1 0 rfl rfl)
theorem dX5_isLike_25 : decode cX5_isLike 25 = .ok (.iinc 2 1, 3) := dk_132 2 1 (dk_at dksX5_isLike_1 1 rfl rfl)
theorem dX5_isLike_28 : decode cX5_isLike 28 = .ok (.goto (-26), 3) := dk_167 255 230 (dk_at dksX5_isLike_1 4 rfl rfl)
theorem dX5_isLike_31 : decode cX5_isLike 31 = .ok (.iconst 1, 1) := dk_4 (dk_at dksX5_isLike_1 7 rfl rfl)
theorem dX5_isLike_32 : decode cX5_isLike 32 = .ok (.ireturn, 1) := dk_172 (dk_at dksX5_isLike_1 8 rfl rfl)
theorem q113 : (Jvm.Cond.initialized "PuzzleWed$Piece") ∈ lw_all := lw_g (lw_at lw_m1 6 rfl) rfl
theorem q242 : (Jvm.Cond.instantiable "PuzzleWed$Piece" (3 : Nat)) ∈ lw_all := lw_g (lw_at lw_m1 135 rfl) rfl
theorem q244 : (Jvm.Cond.instanceMethod ({ cls := "PuzzleWed$Piece", name := "<init>", desc := "()V" } : Jvm.MethodName)) ∈ lw_all := lw_g (lw_at lw_m1 137 rfl) rfl
theorem q245 : (Jvm.Cond.code ({ cls := "PuzzleWed$Piece", name := "<init>", desc := "()V" } : Jvm.MethodName) prog_13_method_1_code (1 : Nat) (Option.none : Option Jvm.ClassFile.FieldType)) ∈ lw_all := lw_g (lw_at lw_m1 138 rfl) rfl
theorem q246 : (Jvm.Cond.methodLink "PuzzleWed$Piece" (3 : Nat) ({ cls := "java/lang/Object", name := "<init>", desc := "()V" } : Jvm.MethodName)) ∈ lw_all := lw_g (lw_at lw_m1 139 rfl) rfl
theorem q247 : (Jvm.Cond.fieldLink "PuzzleWed$Piece" (9 : Nat) "PuzzleWed$Piece" "heights" "[I") ∈ lw_all := lw_g (lw_at lw_m1 140 rfl) rfl
theorem q249 : (Jvm.Cond.fieldLink "PuzzleWed$Piece" (15 : Nat) "PuzzleWed$Piece" "wear" "I") ∈ lw_all := lw_g (lw_at lw_m1 142 rfl) rfl
theorem q252 : (Jvm.Cond.fieldLink "PuzzleWed$Piece" (19 : Nat) "PuzzleWed$Piece" "holder" "I") ∈ lw_all := lw_g (lw_at lw_m1 145 rfl) rfl
theorem q254 : (Jvm.Cond.laysFinal "PuzzleWed$Piece" "PuzzleWed$Piece" "heights" "[I") ∈ lw_all := lw_g (lw_at lw_m1 147 rfl) rfl
theorem q255 : (Jvm.Cond.soleField "PuzzleWed$Piece" "heights") ∈ lw_all := lw_g (lw_at lw_m1 148 rfl) rfl
theorem q256 : (Jvm.Cond.lays "PuzzleWed$Piece" "PuzzleWed$Piece" "wear" "I") ∈ lw_all := lw_g (lw_at lw_m1 149 rfl) rfl
theorem q257 : (Jvm.Cond.soleField "PuzzleWed$Piece" "wear") ∈ lw_all := lw_g (lw_at lw_m1 150 rfl) rfl
theorem q258 : (Jvm.Cond.lays "PuzzleWed$Piece" "PuzzleWed$Piece" "holder" "I") ∈ lw_all := lw_g (lw_at lw_m1 151 rfl) rfl
theorem q259 : (Jvm.Cond.soleField "PuzzleWed$Piece" "holder") ∈ lw_all := lw_g (lw_at lw_m1 152 rfl) rfl
theorem q260 : (Jvm.Cond.superclass "PuzzleWed$Piece" "java/lang/Object") ∈ lw_all := lw_g (lw_at lw_m1 153 rfl) rfl
theorem q943 : (Jvm.Cond.instanceMethod ({ cls := "PuzzleWed$Piece", name := "slack", desc := "(LPuzzleWed$Piece;)I" } : Jvm.MethodName)) ∈ lw_all := lw_g (lw_at lw_m4 116 rfl) rfl
theorem q944 : (Jvm.Cond.selects "PuzzleWed$Piece" ({ cls := "PuzzleWed$Piece", name := "slack", desc := "(LPuzzleWed$Piece;)I" } : Jvm.MethodName) ({ cls := "PuzzleWed$Piece", name := "slack", desc := "(LPuzzleWed$Piece;)I" } : Jvm.MethodName)) ∈ lw_all := lw_g (lw_at lw_m4 117 rfl) rfl
theorem q945 : (Jvm.Cond.code ({ cls := "PuzzleWed$Piece", name := "slack", desc := "(LPuzzleWed$Piece;)I" } : Jvm.MethodName) prog_13_method_4_code (2 : Nat) (Option.some Jvm.ClassFile.FieldType.int)) ∈ lw_all := lw_g (lw_at lw_m4 118 rfl) rfl
theorem q946 : (Jvm.Cond.methodLink "PuzzleWed$Piece" (28 : Nat) ({ cls := "PuzzleWed$Piece", name := "gap", desc := "(LPuzzleWed$Piece;)I" } : Jvm.MethodName)) ∈ lw_all := lw_g (lw_at lw_m4 119 rfl) rfl
theorem q947 : (Jvm.Cond.instanceMethod ({ cls := "PuzzleWed$Piece", name := "gap", desc := "(LPuzzleWed$Piece;)I" } : Jvm.MethodName)) ∈ lw_all := lw_g (lw_at lw_m4 120 rfl) rfl
theorem q948 : (Jvm.Cond.selects "PuzzleWed$Piece" ({ cls := "PuzzleWed$Piece", name := "gap", desc := "(LPuzzleWed$Piece;)I" } : Jvm.MethodName) ({ cls := "PuzzleWed$Piece", name := "gap", desc := "(LPuzzleWed$Piece;)I" } : Jvm.MethodName)) ∈ lw_all := lw_g (lw_at lw_m4 121 rfl) rfl
theorem q949 : (Jvm.Cond.code ({ cls := "PuzzleWed$Piece", name := "gap", desc := "(LPuzzleWed$Piece;)I" } : Jvm.MethodName) prog_13_method_3_code (4 : Nat) (Option.some Jvm.ClassFile.FieldType.int)) ∈ lw_all := lw_g (lw_at lw_m4 122 rfl) rfl
theorem q950 : (Jvm.Cond.methodLink "PuzzleWed$Piece" (22 : Nat) ({ cls := "java/lang/Math", name := "abs", desc := "(I)I" } : Jvm.MethodName)) ∈ lw_all := lw_g (lw_at lw_m4 123 rfl) rfl
theorem q951 : (Jvm.Cond.methodLink "PuzzleWed$Piece" (32 : Nat) ({ cls := "java/lang/Math", name := "max", desc := "(II)I" } : Jvm.MethodName)) ∈ lw_all := lw_g (lw_at lw_m4 124 rfl) rfl
theorem q1030 : (Jvm.Cond.instanceMethod ({ cls := "PuzzleWed$Piece", name := "wears", desc := "(I)V" } : Jvm.MethodName)) ∈ lw_all := lw_g (lw_at lw_m4 203 rfl) rfl
theorem q1031 : (Jvm.Cond.selects "PuzzleWed$Piece" ({ cls := "PuzzleWed$Piece", name := "wears", desc := "(I)V" } : Jvm.MethodName) ({ cls := "PuzzleWed$Piece", name := "wears", desc := "(I)V" } : Jvm.MethodName)) ∈ lw_all := lw_g (lw_at lw_m4 204 rfl) rfl
theorem q1032 : (Jvm.Cond.code ({ cls := "PuzzleWed$Piece", name := "wears", desc := "(I)V" } : Jvm.MethodName) prog_13_method_6_code (2 : Nat) (Option.none : Option Jvm.ClassFile.FieldType)) ∈ lw_all := lw_g (lw_at lw_m4 205 rfl) rfl
theorem q1033 : (Jvm.Cond.methodLink "PuzzleWed$Piece" (36 : Nat) ({ cls := "java/lang/Math", name := "min", desc := "(II)I" } : Jvm.MethodName)) ∈ lw_all := lw_g (lw_at lw_m4 206 rfl) rfl
theorem q1056 : (Jvm.Cond.instanceMethod ({ cls := "PuzzleWed$Piece", name := "takes", desc := "(LPuzzleWed$Piece;)V" } : Jvm.MethodName)) ∈ lw_all := lw_g (lw_at lw_m4 229 rfl) rfl
theorem q1057 : (Jvm.Cond.selects "PuzzleWed$Piece" ({ cls := "PuzzleWed$Piece", name := "takes", desc := "(LPuzzleWed$Piece;)V" } : Jvm.MethodName) ({ cls := "PuzzleWed$Piece", name := "takes", desc := "(LPuzzleWed$Piece;)V" } : Jvm.MethodName)) ∈ lw_all := lw_g (lw_at lw_m4 230 rfl) rfl
theorem q1058 : (Jvm.Cond.code ({ cls := "PuzzleWed$Piece", name := "takes", desc := "(LPuzzleWed$Piece;)V" } : Jvm.MethodName) prog_13_method_2_code (3 : Nat) (Option.none : Option Jvm.ClassFile.FieldType)) ∈ lw_all := lw_g (lw_at lw_m4 231 rfl) rfl
theorem q1204 : (Jvm.Cond.instanceMethod ({ cls := "PuzzleWed$Piece", name := "isLike", desc := "(LPuzzleWed$Piece;)Z" } : Jvm.MethodName)) ∈ lw_all := lw_g (lw_at lw_m5 137 rfl) rfl
theorem q1205 : (Jvm.Cond.selects "PuzzleWed$Piece" ({ cls := "PuzzleWed$Piece", name := "isLike", desc := "(LPuzzleWed$Piece;)Z" } : Jvm.MethodName) ({ cls := "PuzzleWed$Piece", name := "isLike", desc := "(LPuzzleWed$Piece;)Z" } : Jvm.MethodName)) ∈ lw_all := lw_g (lw_at lw_m5 138 rfl) rfl
theorem q1206 : (Jvm.Cond.code ({ cls := "PuzzleWed$Piece", name := "isLike", desc := "(LPuzzleWed$Piece;)Z" } : Jvm.MethodName) prog_13_method_5_code (3 : Nat) (Option.some Jvm.ClassFile.FieldType.boolean)) ∈ lw_all := lw_g (lw_at lw_m5 139 rfl) rfl
theorem in_X5 : ∀ w ∈ wsX50, w ∈ lw_all := lw_in wsX50 [254, 256, 258] (by decide +kernel) (by decide +kernel)
