/-! PuzzleWed$Scribe -/
set_option maxRecDepth 100000
def RX17 : String := "PuzzleWed$Scribe"
abbrev cX17_init : ByteArray := prog_16_method_1_code
def yX17_init : MethodName := ⟨RX17, "<init>", "(LPuzzleWed;I)V"⟩
def dkwX17_init_0 : List UInt8 := [42, 43, 181, 0, 1, 42, 183, 0, 7, 42, 28, 181, 0, 13, 177]
abbrev dktX17_init_0 : List UInt8 := dkwX17_init_0 ++ []
theorem dksX17_init_0 : cX17_init.data.toList.drop 0 = dktX17_init_0 := by decide +kernel
theorem dX17_init_0 : decode cX17_init 0 = .ok (.aload_n 0, 1) := dk_42 (dk_at dksX17_init_0 0 rfl rfl)
theorem dX17_init_1 : decode cX17_init 1 = .ok (.aload_n 1, 1) := dk_43 (dk_at dksX17_init_0 1 rfl rfl)
theorem dX17_init_2 : decode cX17_init 2 = .ok (.putfield 1, 3) := dk_181 0 1 (dk_at dksX17_init_0 2 rfl rfl)
theorem dX17_init_5 : decode cX17_init 5 = .ok (.aload_n 0, 1) := dk_42 (dk_at dksX17_init_0 5 rfl rfl)
theorem dX17_init_6 : decode cX17_init 6 = .ok (.invokespecial 7, 3) := dk_183 0 7 (dk_at dksX17_init_0 6 rfl rfl)
theorem dX17_init_9 : decode cX17_init 9 = .ok (.aload_n 0, 1) := dk_42 (dk_at dksX17_init_0 9 rfl rfl)
theorem dX17_init_10 : decode cX17_init 10 = .ok (.iload_n 2, 1) := dk_28 (dk_at dksX17_init_0 10 rfl rfl)
theorem dX17_init_11 : decode cX17_init 11 = .ok (.putfield 13, 3) := dk_181 0 13 (dk_at dksX17_init_0 11 rfl rfl)
theorem dX17_init_14 : decode cX17_init 14 = .ok (.return_, 1) := dk_177 (dk_at dksX17_init_0 14 rfl rfl)
abbrev cX17_reads : ByteArray := prog_16_method_10_code
def yX17_reads : MethodName := ⟨RX17, "reads", "()Z"⟩
def dkwX17_reads_2 : List UInt8 := [182, 0, 36, 167, 255, 209, 42, 182, 0, 39, 172]
abbrev dktX17_reads_2 : List UInt8 := dkwX17_reads_2 ++ []
def dkwX17_reads_1 : List UInt8 := [159, 0, 12, 42, 4, 42, 180, 0, 17, 182, 0, 46, 42, 182, 0, 50, 42, 182, 0, 39, 153, 255, 216, 42]
abbrev dktX17_reads_1 : List UInt8 := dkwX17_reads_1 ++ dktX17_reads_2
def dkwX17_reads_0 : List UInt8 := [42, 182, 0, 36, 42, 182, 0, 39, 153, 0, 46, 42, 182, 0, 43, 154, 0, 39, 42, 182, 0, 32, 16, 44]
abbrev dktX17_reads_0 : List UInt8 := dkwX17_reads_0 ++ dktX17_reads_1
theorem dksX17_reads_0 : cX17_reads.data.toList.drop 0 = dktX17_reads_0 := by decide +kernel
theorem dksX17_reads_1 : cX17_reads.data.toList.drop 24 = dktX17_reads_1 := dk_seg dksX17_reads_0 24 rfl rfl
theorem dksX17_reads_2 : cX17_reads.data.toList.drop 48 = dktX17_reads_2 := dk_seg dksX17_reads_1 24 rfl rfl
theorem dX17_reads_0 : decode cX17_reads 0 = .ok (.aload_n 0, 1) := dk_42 (dk_at dksX17_reads_0 0 rfl rfl)
theorem dX17_reads_1 : decode cX17_reads 1 = .ok (.invokevirtual 36, 3) := dk_182 0 36 (dk_at dksX17_reads_0 1 rfl rfl)
theorem dX17_reads_4 : decode cX17_reads 4 = .ok (.aload_n 0, 1) := dk_42 (dk_at dksX17_reads_0 4 rfl rfl)
theorem dX17_reads_5 : decode cX17_reads 5 = .ok (.invokevirtual 39, 3) := dk_182 0 39 (dk_at dksX17_reads_0 5 rfl rfl)
theorem dX17_reads_8 : decode cX17_reads 8 = .ok (.ifCond .eq 46, 3) := dk_153 0 46 (dk_at dksX17_reads_0 8 rfl rfl)
theorem dX17_reads_11 : decode cX17_reads 11 = .ok (.aload_n 0, 1) := dk_42 (dk_at dksX17_reads_0 11 rfl rfl)
theorem dX17_reads_12 : decode cX17_reads 12 = .ok (.invokevirtual 43, 3) := dk_182 0 43 (dk_at dksX17_reads_0 12 rfl rfl)
theorem dX17_reads_15 : decode cX17_reads 15 = .ok (.ifCond .ne 39, 3) := dk_154 0 39 (dk_at dksX17_reads_0 15 rfl rfl)
theorem dX17_reads_18 : decode cX17_reads 18 = .ok (.aload_n 0, 1) := dk_42 (dk_at dksX17_reads_0 18 rfl rfl)
theorem dX17_reads_19 : decode cX17_reads 19 = .ok (.invokevirtual 32, 3) := dk_182 0 32 (dk_at dksX17_reads_0 19 rfl rfl)
theorem dX17_reads_22 : decode cX17_reads 22 = .ok (.bipush 44, 2) := dk_16 44 (dk_at dksX17_reads_0 22 rfl rfl)
theorem dX17_reads_24 : decode cX17_reads 24 = .ok (.if_icmp .eq 12, 3) := dk_159 0 12 (dk_at dksX17_reads_1 0 rfl rfl)
theorem dX17_reads_27 : decode cX17_reads 27 = .ok (.aload_n 0, 1) := dk_42 (dk_at dksX17_reads_1 3 rfl rfl)
theorem dX17_reads_28 : decode cX17_reads 28 = .ok (.iconst 1, 1) := dk_4 (dk_at dksX17_reads_1 4 rfl rfl)
theorem dX17_reads_29 : decode cX17_reads 29 = .ok (.aload_n 0, 1) := dk_42 (dk_at dksX17_reads_1 5 rfl rfl)
theorem dX17_reads_30 : decode cX17_reads 30 = .ok (.getfield 17, 3) := dk_180 0 17 (dk_at dksX17_reads_1 6 rfl rfl)
theorem dX17_reads_33 : decode cX17_reads 33 = .ok (.invokevirtual 46, 3) := dk_182 0 46 (dk_at dksX17_reads_1 9 rfl rfl)
theorem dX17_reads_36 : decode cX17_reads 36 = .ok (.aload_n 0, 1) := dk_42 (dk_at dksX17_reads_1 12 rfl rfl)
theorem dX17_reads_37 : decode cX17_reads 37 = .ok (.invokevirtual 50, 3) := dk_182 0 50 (dk_at dksX17_reads_1 13 rfl rfl)
theorem dX17_reads_40 : decode cX17_reads 40 = .ok (.aload_n 0, 1) := dk_42 (dk_at dksX17_reads_1 16 rfl rfl)
theorem dX17_reads_41 : decode cX17_reads 41 = .ok (.invokevirtual 39, 3) := dk_182 0 39 (dk_at dksX17_reads_1 17 rfl rfl)
theorem dX17_reads_44 : decode cX17_reads 44 = .ok (.ifCond .eq (-40), 3) := dk_153 255 216 (dk_at dksX17_reads_1 20 rfl rfl)
theorem dX17_reads_47 : decode cX17_reads 47 = .ok (.aload_n 0, 1) := dk_42 (dk_at dksX17_reads_1 23 rfl rfl)
theorem dX17_reads_48 : decode cX17_reads 48 = .ok (.invokevirtual 36, 3) := dk_182 0 36 (dk_at dksX17_reads_2 0 rfl rfl)
theorem dX17_reads_51 : decode cX17_reads 51 = .ok (.goto (-47), 3) := dk_167 255 209 (dk_at dksX17_reads_2 3 rfl rfl)
theorem dX17_reads_54 : decode cX17_reads 54 = .ok (.aload_n 0, 1) := dk_42 (dk_at dksX17_reads_2 6 rfl rfl)
theorem dX17_reads_55 : decode cX17_reads 55 = .ok (.invokevirtual 39, 3) := dk_182 0 39 (dk_at dksX17_reads_2 7 rfl rfl)
theorem dX17_reads_58 : decode cX17_reads 58 = .ok (.ireturn, 1) := dk_172 (dk_at dksX17_reads_2 10 rfl rfl)
abbrev cX17_place : ByteArray := prog_16_method_3_code
def yX17_place : MethodName := ⟨RX17, "place", "()I"⟩
theorem dX17_place_0 : decode cX17_place 0 = .ok (.aload_n 0, 1) := by decide +kernel
theorem dX17_place_1 : decode cX17_place 1 = .ok (.getfield 17, 3) := by decide +kernel
theorem dX17_place_4 : decode cX17_place 4 = .ok (.ireturn, 1) := by decide +kernel
abbrev cX17_here : ByteArray := prog_16_method_2_code
def yX17_here : MethodName := ⟨RX17, "here", "()I"⟩
def dkwX17_here_1 : List UInt8 := [17, 0, 255, 126, 167, 0, 4, 3, 172]
abbrev dktX17_here_1 : List UInt8 := dkwX17_here_1 ++ []
def dkwX17_here_0 : List UInt8 := [42, 180, 0, 17, 42, 180, 0, 13, 162, 0, 22, 42, 180, 0, 1, 180, 0, 20, 42, 180, 0, 17, 51]
abbrev dktX17_here_0 : List UInt8 := dkwX17_here_0 ++ dktX17_here_1
theorem dksX17_here_0 : cX17_here.data.toList.drop 0 = dktX17_here_0 := by decide +kernel
theorem dksX17_here_1 : cX17_here.data.toList.drop 23 = dktX17_here_1 := dk_seg dksX17_here_0 23 rfl rfl
theorem dX17_here_0 : decode cX17_here 0 = .ok (.aload_n 0, 1) := dk_42 (dk_at dksX17_here_0 0 rfl rfl)
theorem dX17_here_1 : decode cX17_here 1 = .ok (.getfield 17, 3) := dk_180 0 17 (dk_at dksX17_here_0 1 rfl rfl)
theorem dX17_here_4 : decode cX17_here 4 = .ok (.aload_n 0, 1) := dk_42 (dk_at dksX17_here_0 4 rfl rfl)
theorem dX17_here_5 : decode cX17_here 5 = .ok (.getfield 13, 3) := dk_180 0 13 (dk_at dksX17_here_0 5 rfl rfl)
theorem dX17_here_8 : decode cX17_here 8 = .ok (.if_icmp .ge 22, 3) := dk_162 0 22 (dk_at dksX17_here_0 8 rfl rfl)
theorem dX17_here_11 : decode cX17_here 11 = .ok (.aload_n 0, 1) := dk_42 (dk_at dksX17_here_0 11 rfl rfl)
theorem dX17_here_12 : decode cX17_here 12 = .ok (.getfield 1, 3) := dk_180 0 1 (dk_at dksX17_here_0 12 rfl rfl)
theorem dX17_here_15 : decode cX17_here 15 = .ok (.getfield 20, 3) := dk_180 0 20 (dk_at dksX17_here_0 15 rfl rfl)
theorem dX17_here_18 : decode cX17_here 18 = .ok (.aload_n 0, 1) := dk_42 (dk_at dksX17_here_0 18 rfl rfl)
theorem dX17_here_19 : decode cX17_here 19 = .ok (.getfield 17, 3) := dk_180 0 17 (dk_at dksX17_here_0 19 rfl rfl)
theorem dX17_here_22 : decode cX17_here 22 = .ok (.baload, 1) := dk_51 (dk_at dksX17_here_0 22 rfl rfl)
theorem dX17_here_23 : decode cX17_here 23 = .ok (.sipush 255, 3) := dk_17 0 255 (dk_at dksX17_here_1 0 rfl rfl)
theorem dX17_here_26 : decode cX17_here 26 = .ok (.iand, 1) := dk_126 (dk_at dksX17_here_1 3 rfl rfl)
theorem dX17_here_27 : decode cX17_here 27 = .ok (.goto 4, 3) := dk_167 0 4 (dk_at dksX17_here_1 4 rfl rfl)
theorem dX17_here_30 : decode cX17_here 30 = .ok (.iconst 0, 1) := dk_3 (dk_at dksX17_here_1 7 rfl rfl)
theorem dX17_here_31 : decode cX17_here 31 = .ok (.ireturn, 1) := dk_172 (dk_at dksX17_here_1 8 rfl rfl)
abbrev cX17_goes : ByteArray := prog_16_method_4_code
def yX17_goes : MethodName := ⟨RX17, "goes", "()V"⟩
def dkwX17_goes_0 : List UInt8 := [42, 89, 180, 0, 17, 4, 96, 181, 0, 17, 177]
abbrev dktX17_goes_0 : List UInt8 := dkwX17_goes_0 ++ []
theorem dksX17_goes_0 : cX17_goes.data.toList.drop 0 = dktX17_goes_0 := by decide +kernel
theorem dX17_goes_0 : decode cX17_goes 0 = .ok (.aload_n 0, 1) := dk_42 (dk_at dksX17_goes_0 0 rfl rfl)
theorem dX17_goes_1 : decode cX17_goes 1 = .ok (.dup, 1) := dk_89 (dk_at dksX17_goes_0 1 rfl rfl)
theorem dX17_goes_2 : decode cX17_goes 2 = .ok (.getfield 17, 3) := dk_180 0 17 (dk_at dksX17_goes_0 2 rfl rfl)
theorem dX17_goes_5 : decode cX17_goes 5 = .ok (.iconst 1, 1) := dk_4 (dk_at dksX17_goes_0 5 rfl rfl)
theorem dX17_goes_6 : decode cX17_goes 6 = .ok (.iadd, 1) := dk_96 (dk_at dksX17_goes_0 6 rfl rfl)
theorem dX17_goes_7 : decode cX17_goes 7 = .ok (.putfield 17, 3) := dk_181 0 17 (dk_at dksX17_goes_0 7 rfl rfl)
theorem dX17_goes_10 : decode cX17_goes 10 = .ok (.return_, 1) := dk_177 (dk_at dksX17_goes_0 10 rfl rfl)
abbrev cX17_sees : ByteArray := prog_16_method_8_code
def yX17_sees : MethodName := ⟨RX17, "sees", "(II)Z"⟩
def dkwX17_sees_0 : List UInt8 := [42, 182, 0, 32, 27, 161, 0, 15, 42, 182, 0, 32, 28, 163, 0, 7, 4, 167, 0, 4, 3, 172]
abbrev dktX17_sees_0 : List UInt8 := dkwX17_sees_0 ++ []
theorem dksX17_sees_0 : cX17_sees.data.toList.drop 0 = dktX17_sees_0 := by decide +kernel
theorem dX17_sees_0 : decode cX17_sees 0 = .ok (.aload_n 0, 1) := dk_42 (dk_at dksX17_sees_0 0 rfl rfl)
theorem dX17_sees_1 : decode cX17_sees 1 = .ok (.invokevirtual 32, 3) := dk_182 0 32 (dk_at dksX17_sees_0 1 rfl rfl)
theorem dX17_sees_4 : decode cX17_sees 4 = .ok (.iload_n 1, 1) := dk_27 (dk_at dksX17_sees_0 4 rfl rfl)
theorem dX17_sees_5 : decode cX17_sees 5 = .ok (.if_icmp .lt 15, 3) := dk_161 0 15 (dk_at dksX17_sees_0 5 rfl rfl)
theorem dX17_sees_8 : decode cX17_sees 8 = .ok (.aload_n 0, 1) := dk_42 (dk_at dksX17_sees_0 8 rfl rfl)
theorem dX17_sees_9 : decode cX17_sees 9 = .ok (.invokevirtual 32, 3) := dk_182 0 32 (dk_at dksX17_sees_0 9 rfl rfl)
theorem dX17_sees_12 : decode cX17_sees 12 = .ok (.iload_n 2, 1) := dk_28 (dk_at dksX17_sees_0 12 rfl rfl)
theorem dX17_sees_13 : decode cX17_sees 13 = .ok (.if_icmp .gt 7, 3) := dk_163 0 7 (dk_at dksX17_sees_0 13 rfl rfl)
theorem dX17_sees_16 : decode cX17_sees 16 = .ok (.iconst 1, 1) := dk_4 (dk_at dksX17_sees_0 16 rfl rfl)
theorem dX17_sees_17 : decode cX17_sees 17 = .ok (.goto 4, 3) := dk_167 0 4 (dk_at dksX17_sees_0 17 rfl rfl)
theorem dX17_sees_20 : decode cX17_sees 20 = .ok (.iconst 0, 1) := dk_3 (dk_at dksX17_sees_0 20 rfl rfl)
theorem dX17_sees_21 : decode cX17_sees 21 = .ok (.ireturn, 1) := dk_172 (dk_at dksX17_sees_0 21 rfl rfl)
abbrev cX17_bad : ByteArray := prog_16_method_6_code
def yX17_bad : MethodName := ⟨RX17, "bad", "(II)V"⟩
def dkwX17_bad_0 : List UInt8 := [42, 180, 0, 26, 158, 0, 4, 177, 42, 27, 181, 0, 26, 42, 28, 181, 0, 29, 177]
abbrev dktX17_bad_0 : List UInt8 := dkwX17_bad_0 ++ []
theorem dksX17_bad_0 : cX17_bad.data.toList.drop 0 = dktX17_bad_0 := by decide +kernel
theorem dX17_bad_0 : decode cX17_bad 0 = .ok (.aload_n 0, 1) := dk_42 (dk_at dksX17_bad_0 0 rfl rfl)
theorem dX17_bad_1 : decode cX17_bad 1 = .ok (.getfield 26, 3) := dk_180 0 26 (dk_at dksX17_bad_0 1 rfl rfl)
theorem dX17_bad_4 : decode cX17_bad 4 = .ok (.ifCond .le 4, 3) := dk_158 0 4 (dk_at dksX17_bad_0 4 rfl rfl)
theorem dX17_bad_7 : decode cX17_bad 7 = .ok (.return_, 1) := dk_177 (dk_at dksX17_bad_0 7 rfl rfl)
theorem dX17_bad_8 : decode cX17_bad 8 = .ok (.aload_n 0, 1) := dk_42 (dk_at dksX17_bad_0 8 rfl rfl)
theorem dX17_bad_9 : decode cX17_bad 9 = .ok (.iload_n 1, 1) := dk_27 (dk_at dksX17_bad_0 9 rfl rfl)
theorem dX17_bad_10 : decode cX17_bad 10 = .ok (.putfield 26, 3) := dk_181 0 26 (dk_at dksX17_bad_0 10 rfl rfl)
theorem dX17_bad_13 : decode cX17_bad 13 = .ok (.aload_n 0, 1) := dk_42 (dk_at dksX17_bad_0 13 rfl rfl)
theorem dX17_bad_14 : decode cX17_bad 14 = .ok (.iload_n 2, 1) := dk_28 (dk_at dksX17_bad_0 14 rfl rfl)
theorem dX17_bad_15 : decode cX17_bad 15 = .ok (.putfield 29, 3) := dk_181 0 29 (dk_at dksX17_bad_0 15 rfl rfl)
theorem dX17_bad_18 : decode cX17_bad 18 = .ok (.return_, 1) := dk_177 (dk_at dksX17_bad_0 18 rfl rfl)
abbrev cX17_isGood : ByteArray := prog_16_method_7_code
def yX17_isGood : MethodName := ⟨RX17, "isGood", "()Z"⟩
def dkwX17_isGood_0 : List UInt8 := [42, 180, 0, 26, 154, 0, 7, 4, 167, 0, 4, 3, 172]
abbrev dktX17_isGood_0 : List UInt8 := dkwX17_isGood_0 ++ []
theorem dksX17_isGood_0 : cX17_isGood.data.toList.drop 0 = dktX17_isGood_0 := by decide +kernel
theorem dX17_isGood_0 : decode cX17_isGood 0 = .ok (.aload_n 0, 1) := dk_42 (dk_at dksX17_isGood_0 0 rfl rfl)
theorem dX17_isGood_1 : decode cX17_isGood 1 = .ok (.getfield 26, 3) := dk_180 0 26 (dk_at dksX17_isGood_0 1 rfl rfl)
theorem dX17_isGood_4 : decode cX17_isGood 4 = .ok (.ifCond .ne 7, 3) := dk_154 0 7 (dk_at dksX17_isGood_0 4 rfl rfl)
theorem dX17_isGood_7 : decode cX17_isGood 7 = .ok (.iconst 1, 1) := dk_4 (dk_at dksX17_isGood_0 7 rfl rfl)
theorem dX17_isGood_8 : decode cX17_isGood 8 = .ok (.goto 4, 3) := dk_167 0 4 (dk_at dksX17_isGood_0 8 rfl rfl)
theorem dX17_isGood_11 : decode cX17_isGood 11 = .ok (.iconst 0, 1) := dk_3 (dk_at dksX17_isGood_0 11 rfl rfl)
theorem dX17_isGood_12 : decode cX17_isGood 12 = .ok (.ireturn, 1) := dk_172 (dk_at dksX17_isGood_0 12 rfl rfl)
abbrev cX17_times : ByteArray := prog_16_method_12_code
def yX17_times : MethodName := ⟨RX17, "times", "(I)I"⟩
def dkwX17_times_2 : List UInt8 := [182, 0, 50, 28, 172]
abbrev dktX17_times_2 : List UInt8 := dkwX17_times_2 ++ []
def dkwX17_times_1 : List UInt8 := [182, 0, 53, 154, 0, 12, 42, 4, 42, 180, 0, 17, 182, 0, 46, 42, 182, 0, 32, 16, 48, 100, 61, 42]
abbrev dktX17_times_1 : List UInt8 := dkwX17_times_1 ++ dktX17_times_2
def dkwX17_times_0 : List UInt8 := [42, 182, 0, 32, 16, 42, 159, 0, 5, 4, 172, 42, 182, 0, 50, 42, 16, 50, 16, 48, 27, 96]
abbrev dktX17_times_0 : List UInt8 := dkwX17_times_0 ++ dktX17_times_1
theorem dksX17_times_0 : cX17_times.data.toList.drop 0 = dktX17_times_0 := by decide +kernel
theorem dksX17_times_1 : cX17_times.data.toList.drop 22 = dktX17_times_1 := dk_seg dksX17_times_0 22 rfl rfl
theorem dksX17_times_2 : cX17_times.data.toList.drop 46 = dktX17_times_2 := dk_seg dksX17_times_1 24 rfl rfl
theorem dX17_times_0 : decode cX17_times 0 = .ok (.aload_n 0, 1) := dk_42 (dk_at dksX17_times_0 0 rfl rfl)
theorem dX17_times_1 : decode cX17_times 1 = .ok (.invokevirtual 32, 3) := dk_182 0 32 (dk_at dksX17_times_0 1 rfl rfl)
theorem dX17_times_4 : decode cX17_times 4 = .ok (.bipush 42, 2) := dk_16 42 (dk_at dksX17_times_0 4 rfl rfl)
theorem dX17_times_6 : decode cX17_times 6 = .ok (.if_icmp .eq 5, 3) := dk_159 0 5 (dk_at dksX17_times_0 6 rfl rfl)
theorem dX17_times_9 : decode cX17_times 9 = .ok (.iconst 1, 1) := dk_4 (dk_at dksX17_times_0 9 rfl rfl)
theorem dX17_times_10 : decode cX17_times 10 = .ok (.ireturn, 1) := dk_172 (dk_at dksX17_times_0 10 rfl rfl)
theorem dX17_times_11 : decode cX17_times 11 = .ok (.aload_n 0, 1) := dk_42 (dk_at dksX17_times_0 11 rfl rfl)
theorem dX17_times_12 : decode cX17_times 12 = .ok (.invokevirtual 50, 3) := dk_182 0 50 (dk_at dksX17_times_0 12 rfl rfl)
theorem dX17_times_15 : decode cX17_times 15 = .ok (.aload_n 0, 1) := dk_42 (dk_at dksX17_times_0 15 rfl rfl)
theorem dX17_times_16 : decode cX17_times 16 = .ok (.bipush 50, 2) := dk_16 50 (dk_at dksX17_times_0 16 rfl rfl)
theorem dX17_times_18 : decode cX17_times 18 = .ok (.bipush 48, 2) := dk_16 48 (dk_at dksX17_times_0 18 rfl rfl)
theorem dX17_times_20 : decode cX17_times 20 = .ok (.iload_n 1, 1) := dk_27 (dk_at dksX17_times_0 20 rfl rfl)
theorem dX17_times_21 : decode cX17_times 21 = .ok (.iadd, 1) := dk_96 (dk_at dksX17_times_0 21 rfl rfl)
theorem dX17_times_22 : decode cX17_times 22 = .ok (.invokevirtual 53, 3) := dk_182 0 53 (dk_at dksX17_times_1 0 rfl rfl)
theorem dX17_times_25 : decode cX17_times 25 = .ok (.ifCond .ne 12, 3) := dk_154 0 12 (dk_at dksX17_times_1 3 rfl rfl)
theorem dX17_times_28 : decode cX17_times 28 = .ok (.aload_n 0, 1) := dk_42 (dk_at dksX17_times_1 6 rfl rfl)
theorem dX17_times_29 : decode cX17_times 29 = .ok (.iconst 1, 1) := dk_4 (dk_at dksX17_times_1 7 rfl rfl)
theorem dX17_times_30 : decode cX17_times 30 = .ok (.aload_n 0, 1) := dk_42 (dk_at dksX17_times_1 8 rfl rfl)
theorem dX17_times_31 : decode cX17_times 31 = .ok (.getfield 17, 3) := dk_180 0 17 (dk_at dksX17_times_1 9 rfl rfl)
theorem dX17_times_34 : decode cX17_times 34 = .ok (.invokevirtual 46, 3) := dk_182 0 46 (dk_at dksX17_times_1 12 rfl rfl)
theorem dX17_times_37 : decode cX17_times 37 = .ok (.aload_n 0, 1) := dk_42 (dk_at dksX17_times_1 15 rfl rfl)
theorem dX17_times_38 : decode cX17_times 38 = .ok (.invokevirtual 32, 3) := dk_182 0 32 (dk_at dksX17_times_1 16 rfl rfl)
theorem dX17_times_41 : decode cX17_times 41 = .ok (.bipush 48, 2) := dk_16 48 (dk_at dksX17_times_1 19 rfl rfl)
theorem dX17_times_43 : decode cX17_times 43 = .ok (.isub, 1) := dk_100 (dk_at dksX17_times_1 21 rfl rfl)
theorem dX17_times_44 : decode cX17_times 44 = .ok (.istore_n 2, 1) := dk_61 (dk_at dksX17_times_1 22 rfl rfl)
theorem dX17_times_45 : decode cX17_times 45 = .ok (.aload_n 0, 1) := dk_42 (dk_at dksX17_times_1 23 rfl rfl)
theorem dX17_times_46 : decode cX17_times 46 = .ok (.invokevirtual 50, 3) := dk_182 0 50 (dk_at dksX17_times_2 0 rfl rfl)
theorem dX17_times_49 : decode cX17_times 49 = .ok (.iload_n 2, 1) := dk_28 (dk_at dksX17_times_2 3 rfl rfl)
theorem dX17_times_50 : decode cX17_times 50 = .ok (.ireturn, 1) := dk_172 (dk_at dksX17_times_2 4 rfl rfl)
abbrev cX17_isEnd : ByteArray := prog_16_method_5_code
def yX17_isEnd : MethodName := ⟨RX17, "isEnd", "()Z"⟩
def dkwX17_isEnd_0 : List UInt8 := [42, 180, 0, 17, 42, 180, 0, 13, 161, 0, 7, 4, 167, 0, 4, 3, 172]
abbrev dktX17_isEnd_0 : List UInt8 := dkwX17_isEnd_0 ++ []
theorem dksX17_isEnd_0 : cX17_isEnd.data.toList.drop 0 = dktX17_isEnd_0 := by decide +kernel
theorem dX17_isEnd_0 : decode cX17_isEnd 0 = .ok (.aload_n 0, 1) := dk_42 (dk_at dksX17_isEnd_0 0 rfl rfl)
theorem dX17_isEnd_1 : decode cX17_isEnd 1 = .ok (.getfield 17, 3) := dk_180 0 17 (dk_at dksX17_isEnd_0 1 rfl rfl)
theorem dX17_isEnd_4 : decode cX17_isEnd 4 = .ok (.aload_n 0, 1) := dk_42 (dk_at dksX17_isEnd_0 4 rfl rfl)
theorem dX17_isEnd_5 : decode cX17_isEnd 5 = .ok (.getfield 13, 3) := dk_180 0 13 (dk_at dksX17_isEnd_0 5 rfl rfl)
theorem dX17_isEnd_8 : decode cX17_isEnd 8 = .ok (.if_icmp .lt 7, 3) := dk_161 0 7 (dk_at dksX17_isEnd_0 8 rfl rfl)
theorem dX17_isEnd_11 : decode cX17_isEnd 11 = .ok (.iconst 1, 1) := dk_4 (dk_at dksX17_isEnd_0 11 rfl rfl)
theorem dX17_isEnd_12 : decode cX17_isEnd 12 = .ok (.goto 4, 3) := dk_167 0 4 (dk_at dksX17_isEnd_0 12 rfl rfl)
theorem dX17_isEnd_15 : decode cX17_isEnd 15 = .ok (.iconst 0, 1) := dk_3 (dk_at dksX17_isEnd_0 15 rfl rfl)
theorem dX17_isEnd_16 : decode cX17_isEnd 16 = .ok (.ireturn, 1) := dk_172 (dk_at dksX17_isEnd_0 16 rfl rfl)
abbrev cX17_faulty : ByteArray := prog_16_method_11_code
def yX17_faulty : MethodName := ⟨RX17, "faulty", "()I"⟩
def dkwX17_faulty_0 : List UInt8 := [17, 252, 24, 42, 180, 0, 26, 104, 42, 180, 0, 29, 100, 172]
abbrev dktX17_faulty_0 : List UInt8 := dkwX17_faulty_0 ++ []
theorem dksX17_faulty_0 : cX17_faulty.data.toList.drop 0 = dktX17_faulty_0 := by decide +kernel
theorem dX17_faulty_0 : decode cX17_faulty 0 = .ok (.sipush (-1000), 3) := dk_17 252 24 (dk_at dksX17_faulty_0 0 rfl rfl)
theorem dX17_faulty_3 : decode cX17_faulty 3 = .ok (.aload_n 0, 1) := dk_42 (dk_at dksX17_faulty_0 3 rfl rfl)
theorem dX17_faulty_4 : decode cX17_faulty 4 = .ok (.getfield 26, 3) := dk_180 0 26 (dk_at dksX17_faulty_0 4 rfl rfl)
theorem dX17_faulty_7 : decode cX17_faulty 7 = .ok (.imul, 1) := dk_104 (dk_at dksX17_faulty_0 7 rfl rfl)
theorem dX17_faulty_8 : decode cX17_faulty 8 = .ok (.aload_n 0, 1) := dk_42 (dk_at dksX17_faulty_0 8 rfl rfl)
theorem dX17_faulty_9 : decode cX17_faulty 9 = .ok (.getfield 29, 3) := dk_180 0 29 (dk_at dksX17_faulty_0 9 rfl rfl)
theorem dX17_faulty_12 : decode cX17_faulty 12 = .ok (.isub, 1) := dk_100 (dk_at dksX17_faulty_0 12 rfl rfl)
theorem dX17_faulty_13 : decode cX17_faulty 13 = .ok (.ireturn, 1) := dk_172 (dk_at dksX17_faulty_0 13 rfl rfl)
theorem q131 : (Jvm.Cond.initialized "PuzzleWed$Scribe") ∈ lw_all := lw_g (lw_at lw_m1 24 rfl) rfl
theorem q336 : (Jvm.Cond.fieldLinkNest "PuzzleWed$Scribe" (20 : Nat) "PuzzleWed" "tape" "[B" "PuzzleWed") ∈ lw_tbl := lw_at lw_m1 229 rfl
theorem q727 : (Jvm.Cond.instanceMethod ({ cls := "PuzzleWed$Scribe", name := "<init>", desc := "(LPuzzleWed;I)V" } : Jvm.MethodName)) ∈ lw_all := lw_g (lw_at lw_m3 140 rfl) rfl
theorem q728 : (Jvm.Cond.code ({ cls := "PuzzleWed$Scribe", name := "<init>", desc := "(LPuzzleWed;I)V" } : Jvm.MethodName) prog_16_method_1_code (3 : Nat) (Option.none : Option Jvm.ClassFile.FieldType)) ∈ lw_all := lw_g (lw_at lw_m3 141 rfl) rfl
theorem q729 : (Jvm.Cond.methodLink "PuzzleWed$Scribe" (7 : Nat) ({ cls := "java/lang/Object", name := "<init>", desc := "()V" } : Jvm.MethodName)) ∈ lw_all := lw_g (lw_at lw_m3 142 rfl) rfl
theorem q734 : (Jvm.Cond.fieldLink "PuzzleWed$Scribe" (13 : Nat) "PuzzleWed$Scribe" "n" "I") ∈ lw_all := lw_g (lw_at lw_m3 147 rfl) rfl
theorem q735 : (Jvm.Cond.fieldLink "PuzzleWed$Scribe" (17 : Nat) "PuzzleWed$Scribe" "at" "I") ∈ lw_all := lw_g (lw_at lw_m3 148 rfl) rfl
theorem q736 : (Jvm.Cond.fieldLink "PuzzleWed$Scribe" (26 : Nat) "PuzzleWed$Scribe" "fault" "I") ∈ lw_all := lw_g (lw_at lw_m3 149 rfl) rfl
theorem q737 : (Jvm.Cond.fieldLink "PuzzleWed$Scribe" (29 : Nat) "PuzzleWed$Scribe" "place" "I") ∈ lw_all := lw_g (lw_at lw_m3 150 rfl) rfl
theorem q738 : (Jvm.Cond.fieldLink "PuzzleWed$Scribe" (1 : Nat) "PuzzleWed$Scribe" "this$0" "LPuzzleWed;") ∈ lw_all := lw_g (lw_at lw_m3 151 rfl) rfl
theorem q746 : (Jvm.Cond.soleField "PuzzleWed$Scribe" "n") ∈ lw_all := lw_g (lw_at lw_m3 159 rfl) rfl
theorem q748 : (Jvm.Cond.soleField "PuzzleWed$Scribe" "at") ∈ lw_all := lw_g (lw_at lw_m3 161 rfl) rfl
theorem q750 : (Jvm.Cond.soleField "PuzzleWed$Scribe" "fault") ∈ lw_all := lw_g (lw_at lw_m3 163 rfl) rfl
theorem q752 : (Jvm.Cond.soleField "PuzzleWed$Scribe" "place") ∈ lw_all := lw_g (lw_at lw_m3 165 rfl) rfl
theorem q754 : (Jvm.Cond.soleField "PuzzleWed$Scribe" "this$0") ∈ lw_all := lw_g (lw_at lw_m3 167 rfl) rfl
theorem q762 : (Jvm.Cond.declares ({ cls := "PuzzleWed$Scribe", name := "reads", desc := "()Z" } : Jvm.MethodName)) ∈ lw_tbl := lw_at lw_m3 175 rfl
theorem q764 : (Jvm.Cond.instanceMethod ({ cls := "PuzzleWed$Scribe", name := "reads", desc := "()Z" } : Jvm.MethodName)) ∈ lw_all := lw_g (lw_at lw_m3 177 rfl) rfl
theorem q765 : (Jvm.Cond.code ({ cls := "PuzzleWed$Scribe", name := "reads", desc := "()Z" } : Jvm.MethodName) prog_16_method_10_code (1 : Nat) (Option.some Jvm.ClassFile.FieldType.boolean)) ∈ lw_all := lw_g (lw_at lw_m3 178 rfl) rfl
theorem q766 : (Jvm.Cond.methodLink "PuzzleWed$Scribe" (36 : Nat) ({ cls := "PuzzleWed$Scribe", name := "entry", desc := "()V" } : Jvm.MethodName)) ∈ lw_all := lw_g (lw_at lw_m3 179 rfl) rfl
theorem q767 : (Jvm.Cond.declares ({ cls := "PuzzleWed$Scribe", name := "entry", desc := "()V" } : Jvm.MethodName)) ∈ lw_tbl := lw_at lw_m3 180 rfl
theorem q768 : (Jvm.Cond.sameMethod "PuzzleWed$Scribe" "PuzzleWed$Scribe" "entry" "()V") ∈ lw_all := lw_g (lw_at lw_m3 181 rfl) rfl
theorem q774 : (Jvm.Cond.declares ({ cls := "PuzzleWed$Scribe", name := "place", desc := "()I" } : Jvm.MethodName)) ∈ lw_tbl := lw_at lw_m3 187 rfl
theorem q776 : (Jvm.Cond.instanceMethod ({ cls := "PuzzleWed$Scribe", name := "place", desc := "()I" } : Jvm.MethodName)) ∈ lw_all := lw_g (lw_at lw_m3 189 rfl) rfl
theorem q777 : (Jvm.Cond.code ({ cls := "PuzzleWed$Scribe", name := "place", desc := "()I" } : Jvm.MethodName) prog_16_method_3_code (1 : Nat) (Option.some Jvm.ClassFile.FieldType.int)) ∈ lw_all := lw_g (lw_at lw_m3 190 rfl) rfl
theorem q780 : (Jvm.Cond.declares ({ cls := "PuzzleWed$Scribe", name := "here", desc := "()I" } : Jvm.MethodName)) ∈ lw_tbl := lw_at lw_m3 193 rfl
theorem q782 : (Jvm.Cond.instanceMethod ({ cls := "PuzzleWed$Scribe", name := "here", desc := "()I" } : Jvm.MethodName)) ∈ lw_all := lw_g (lw_at lw_m3 195 rfl) rfl
theorem q783 : (Jvm.Cond.code ({ cls := "PuzzleWed$Scribe", name := "here", desc := "()I" } : Jvm.MethodName) prog_16_method_2_code (1 : Nat) (Option.some Jvm.ClassFile.FieldType.int)) ∈ lw_all := lw_g (lw_at lw_m3 196 rfl) rfl
theorem q786 : (Jvm.Cond.declares ({ cls := "PuzzleWed$Scribe", name := "goes", desc := "()V" } : Jvm.MethodName)) ∈ lw_tbl := lw_at lw_m3 199 rfl
theorem q788 : (Jvm.Cond.instanceMethod ({ cls := "PuzzleWed$Scribe", name := "goes", desc := "()V" } : Jvm.MethodName)) ∈ lw_all := lw_g (lw_at lw_m3 201 rfl) rfl
theorem q789 : (Jvm.Cond.code ({ cls := "PuzzleWed$Scribe", name := "goes", desc := "()V" } : Jvm.MethodName) prog_16_method_4_code (1 : Nat) (Option.none : Option Jvm.ClassFile.FieldType)) ∈ lw_all := lw_g (lw_at lw_m3 202 rfl) rfl
theorem q792 : (Jvm.Cond.declares ({ cls := "PuzzleWed$Scribe", name := "sees", desc := "(II)Z" } : Jvm.MethodName)) ∈ lw_tbl := lw_at lw_m3 205 rfl
theorem q794 : (Jvm.Cond.instanceMethod ({ cls := "PuzzleWed$Scribe", name := "sees", desc := "(II)Z" } : Jvm.MethodName)) ∈ lw_all := lw_g (lw_at lw_m3 207 rfl) rfl
theorem q795 : (Jvm.Cond.code ({ cls := "PuzzleWed$Scribe", name := "sees", desc := "(II)Z" } : Jvm.MethodName) prog_16_method_8_code (3 : Nat) (Option.some Jvm.ClassFile.FieldType.boolean)) ∈ lw_all := lw_g (lw_at lw_m3 208 rfl) rfl
theorem q796 : (Jvm.Cond.methodLink "PuzzleWed$Scribe" (32 : Nat) ({ cls := "PuzzleWed$Scribe", name := "here", desc := "()I" } : Jvm.MethodName)) ∈ lw_all := lw_g (lw_at lw_m3 209 rfl) rfl
theorem q799 : (Jvm.Cond.declares ({ cls := "PuzzleWed$Scribe", name := "bad", desc := "(II)V" } : Jvm.MethodName)) ∈ lw_tbl := lw_at lw_m3 212 rfl
theorem q801 : (Jvm.Cond.instanceMethod ({ cls := "PuzzleWed$Scribe", name := "bad", desc := "(II)V" } : Jvm.MethodName)) ∈ lw_all := lw_g (lw_at lw_m3 214 rfl) rfl
theorem q802 : (Jvm.Cond.code ({ cls := "PuzzleWed$Scribe", name := "bad", desc := "(II)V" } : Jvm.MethodName) prog_16_method_6_code (3 : Nat) (Option.none : Option Jvm.ClassFile.FieldType)) ∈ lw_all := lw_g (lw_at lw_m3 215 rfl) rfl
theorem q805 : (Jvm.Cond.declares ({ cls := "PuzzleWed$Scribe", name := "isGood", desc := "()Z" } : Jvm.MethodName)) ∈ lw_tbl := lw_at lw_m3 218 rfl
theorem q807 : (Jvm.Cond.instanceMethod ({ cls := "PuzzleWed$Scribe", name := "isGood", desc := "()Z" } : Jvm.MethodName)) ∈ lw_all := lw_g (lw_at lw_m3 220 rfl) rfl
theorem q808 : (Jvm.Cond.code ({ cls := "PuzzleWed$Scribe", name := "isGood", desc := "()Z" } : Jvm.MethodName) prog_16_method_7_code (1 : Nat) (Option.some Jvm.ClassFile.FieldType.boolean)) ∈ lw_all := lw_g (lw_at lw_m3 221 rfl) rfl
theorem q811 : (Jvm.Cond.declares ({ cls := "PuzzleWed$Scribe", name := "times", desc := "(I)I" } : Jvm.MethodName)) ∈ lw_tbl := lw_at lw_m3 224 rfl
theorem q813 : (Jvm.Cond.instanceMethod ({ cls := "PuzzleWed$Scribe", name := "times", desc := "(I)I" } : Jvm.MethodName)) ∈ lw_all := lw_g (lw_at lw_m3 226 rfl) rfl
theorem q814 : (Jvm.Cond.code ({ cls := "PuzzleWed$Scribe", name := "times", desc := "(I)I" } : Jvm.MethodName) prog_16_method_12_code (3 : Nat) (Option.some Jvm.ClassFile.FieldType.int)) ∈ lw_all := lw_g (lw_at lw_m3 227 rfl) rfl
theorem q815 : (Jvm.Cond.methodLink "PuzzleWed$Scribe" (50 : Nat) ({ cls := "PuzzleWed$Scribe", name := "goes", desc := "()V" } : Jvm.MethodName)) ∈ lw_all := lw_g (lw_at lw_m3 228 rfl) rfl
theorem q816 : (Jvm.Cond.methodLink "PuzzleWed$Scribe" (53 : Nat) ({ cls := "PuzzleWed$Scribe", name := "sees", desc := "(II)Z" } : Jvm.MethodName)) ∈ lw_all := lw_g (lw_at lw_m3 229 rfl) rfl
theorem q817 : (Jvm.Cond.methodLink "PuzzleWed$Scribe" (46 : Nat) ({ cls := "PuzzleWed$Scribe", name := "bad", desc := "(II)V" } : Jvm.MethodName)) ∈ lw_all := lw_g (lw_at lw_m3 230 rfl) rfl
theorem q842 : (Jvm.Cond.methodLink "PuzzleWed$Scribe" (39 : Nat) ({ cls := "PuzzleWed$Scribe", name := "isGood", desc := "()Z" } : Jvm.MethodName)) ∈ lw_all := lw_g (lw_at lw_m4 15 rfl) rfl
theorem q843 : (Jvm.Cond.methodLink "PuzzleWed$Scribe" (43 : Nat) ({ cls := "PuzzleWed$Scribe", name := "isEnd", desc := "()Z" } : Jvm.MethodName)) ∈ lw_all := lw_g (lw_at lw_m4 16 rfl) rfl
theorem q844 : (Jvm.Cond.instanceMethod ({ cls := "PuzzleWed$Scribe", name := "isEnd", desc := "()Z" } : Jvm.MethodName)) ∈ lw_all := lw_g (lw_at lw_m4 17 rfl) rfl
theorem q845 : (Jvm.Cond.sameMethod "PuzzleWed$Scribe" "PuzzleWed$Scribe" "isEnd" "()Z") ∈ lw_all := lw_g (lw_at lw_m4 18 rfl) rfl
theorem q848 : (Jvm.Cond.code ({ cls := "PuzzleWed$Scribe", name := "isEnd", desc := "()Z" } : Jvm.MethodName) prog_16_method_5_code (1 : Nat) (Option.some Jvm.ClassFile.FieldType.boolean)) ∈ lw_all := lw_g (lw_at lw_m4 21 rfl) rfl
theorem q851 : (Jvm.Cond.declares ({ cls := "PuzzleWed$Scribe", name := "faulty", desc := "()I" } : Jvm.MethodName)) ∈ lw_tbl := lw_at lw_m4 24 rfl
theorem q853 : (Jvm.Cond.instanceMethod ({ cls := "PuzzleWed$Scribe", name := "faulty", desc := "()I" } : Jvm.MethodName)) ∈ lw_all := lw_g (lw_at lw_m4 26 rfl) rfl
theorem q854 : (Jvm.Cond.code ({ cls := "PuzzleWed$Scribe", name := "faulty", desc := "()I" } : Jvm.MethodName) prog_16_method_11_code (1 : Nat) (Option.some Jvm.ClassFile.FieldType.int)) ∈ lw_all := lw_g (lw_at lw_m4 27 rfl) rfl
theorem q1814 : (Jvm.Cond.sameMethod "PuzzleWed$Scribe" "PuzzleWed$Scribe" "here" "()I") ∈ lw_all := lw_g (lw_at lw_m8 27 rfl) rfl
theorem q1817 : (Jvm.Cond.sameMethod "PuzzleWed$Scribe" "PuzzleWed$Scribe" "goes" "()V") ∈ lw_all := lw_g (lw_at lw_m8 30 rfl) rfl
theorem q1820 : (Jvm.Cond.sameMethod "PuzzleWed$Scribe" "PuzzleWed$Scribe" "sees" "(II)Z") ∈ lw_all := lw_g (lw_at lw_m8 33 rfl) rfl
theorem q1823 : (Jvm.Cond.sameMethod "PuzzleWed$Scribe" "PuzzleWed$Scribe" "bad" "(II)V") ∈ lw_all := lw_g (lw_at lw_m8 36 rfl) rfl
theorem q1826 : (Jvm.Cond.sameMethod "PuzzleWed$Scribe" "PuzzleWed$Scribe" "isGood" "()Z") ∈ lw_all := lw_g (lw_at lw_m8 39 rfl) rfl
