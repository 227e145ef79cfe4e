theorem q180 : (Jvm.Cond.arrayOver (Jvm.ClassFile.FieldType.object "PuzzleWed$Person")) ∈ lw_tbl := lw_at lw_m1 73 rfl
set_option maxRecDepth 100000
theorem q182 : (Jvm.Cond.arrayOver (Jvm.ClassFile.FieldType.object "PuzzleWed$Piece")) ∈ lw_tbl := lw_at lw_m1 75 rfl
theorem q241 : (Jvm.Cond.arrayClass Jvm.ClassFile.FieldType.int) ∈ lw_all := lw_g (lw_at lw_m1 134 rfl) rfl
theorem q302 : (Jvm.Cond.arrayOver (Jvm.ClassFile.FieldType.object "PuzzleWed$Sum")) ∈ lw_tbl := lw_at lw_m1 195 rfl
theorem q304 : (Jvm.Cond.arrayOver (Jvm.ClassFile.FieldType.object "PuzzleWed$Condition")) ∈ lw_tbl := lw_at lw_m1 197 rfl
theorem q323 : (Jvm.Cond.arrayClass Jvm.ClassFile.FieldType.byte) ∈ lw_all := lw_g (lw_at lw_m1 216 rfl) rfl
theorem q325 : (Jvm.Cond.arrayOver (Jvm.ClassFile.FieldType.array Jvm.ClassFile.FieldType.int)) ∈ lw_tbl := lw_at lw_m1 218 rfl
theorem q327 : (Jvm.Cond.arrayOver (Jvm.ClassFile.FieldType.array (Jvm.ClassFile.FieldType.array Jvm.ClassFile.FieldType.int))) ∈ lw_tbl := lw_at lw_m1 220 rfl
