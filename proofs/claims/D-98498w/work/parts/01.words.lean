-- ===== PART A: goes FIRST, ahead of the names: the tables' words, and 'selects' of the private methods out of them =====
/-- a private method of a class that the tables say can be made, by its rows of tables_1 -/
def lw_okq (q : MethodName × Nat) : Prop := (q.1.cls ≠ "java/lang/invoke/MethodHandle" ∧ q.1.cls ≠ "java/lang/invoke/VarHandle") ∧ Cond.instantiable q.1.cls q.2 ∈ tables_1 ∧ Cond.privateMethod q.1 ∈ tables_1 ∧ Cond.instanceMethod q.1 ∈ tables_1
set_option maxRecDepth 100000
theorem lw_t1 {w : Cond} (h : w ∈ tables_1_1) : w ∈ tables_1 := List.mem_append_left _ h
theorem lw_t2 {w : Cond} (h : w ∈ tables_1_2) : w ∈ tables_1 := List.mem_append_right _ (List.mem_append_left _ h)
theorem lw_t3 {w : Cond} (h : w ∈ tables_1_3) : w ∈ tables_1 := List.mem_append_right _ (List.mem_append_right _ (List.mem_append_left _ h))
theorem lw_t4 {w : Cond} (h : w ∈ tables_1_4) : w ∈ tables_1 := List.mem_append_right _ (List.mem_append_right _ (List.mem_append_right _ (List.mem_append_left _ h)))
theorem lw_t5 {w : Cond} (h : w ∈ tables_1_5) : w ∈ tables_1 := List.mem_append_right _ (List.mem_append_right _ (List.mem_append_right _ (List.mem_append_right _ (List.mem_append_left _ h))))
theorem lw_t6 {w : Cond} (h : w ∈ tables_1_6) : w ∈ tables_1 := List.mem_append_right _ (List.mem_append_right _ (List.mem_append_right _ (List.mem_append_right _ (List.mem_append_right _ (List.mem_append_left _ h)))))
theorem lw_t7 {w : Cond} (h : w ∈ tables_1_7) : w ∈ tables_1 := List.mem_append_right _ (List.mem_append_right _ (List.mem_append_right _ (List.mem_append_right _ (List.mem_append_right _ (List.mem_append_right _ (List.mem_append_left _ h))))))
theorem lw_t8 {w : Cond} (h : w ∈ tables_1_8) : w ∈ tables_1 := List.mem_append_right _ (List.mem_append_right _ (List.mem_append_right _ (List.mem_append_right _ (List.mem_append_right _ (List.mem_append_right _ (List.mem_append_right _ h))))))
theorem lw_p0 : lw_okq (⟨"PuzzleWed", "push", "(I)V"⟩, 18) := ⟨⟨by decide +kernel, by decide +kernel⟩, lw_t1 (List.mem_of_getElem? (i := 29) rfl), lw_t2 (List.mem_of_getElem? (i := 98) rfl), lw_t2 (List.mem_of_getElem? (i := 99) rfl)⟩
theorem lw_p1 : lw_okq (⟨"PuzzleWed$Reader", "isGood", "()Z"⟩, 7) := ⟨⟨by decide +kernel, by decide +kernel⟩, lw_t2 (List.mem_of_getElem? (i := 106) rfl), lw_t2 (List.mem_of_getElem? (i := 141) rfl), lw_t2 (List.mem_of_getElem? (i := 142) rfl)⟩
theorem lw_p2 : lw_okq (⟨"PuzzleWed$Reader", "clause", "()V"⟩, 7) := ⟨⟨by decide +kernel, by decide +kernel⟩, lw_t2 (List.mem_of_getElem? (i := 106) rfl), lw_t2 (List.mem_of_getElem? (i := 145) rfl), lw_t2 (List.mem_of_getElem? (i := 146) rfl)⟩
theorem lw_p3 : lw_okq (⟨"PuzzleWed$Reader", "here", "()I"⟩, 7) := ⟨⟨by decide +kernel, by decide +kernel⟩, lw_t2 (List.mem_of_getElem? (i := 106) rfl), lw_t2 (List.mem_of_getElem? (i := 149) rfl), lw_t2 (List.mem_of_getElem? (i := 150) rfl)⟩
theorem lw_p4 : lw_okq (⟨"PuzzleWed$Reader", "bad", "(II)V"⟩, 7) := ⟨⟨by decide +kernel, by decide +kernel⟩, lw_t2 (List.mem_of_getElem? (i := 106) rfl), lw_t3 (List.mem_of_getElem? (i := 0) rfl), lw_t3 (List.mem_of_getElem? (i := 1) rfl)⟩
theorem lw_p5 : lw_okq (⟨"PuzzleWed$Reader", "sum", "()LPuzzleWed$Sum;"⟩, 7) := ⟨⟨by decide +kernel, by decide +kernel⟩, lw_t2 (List.mem_of_getElem? (i := 106) rfl), lw_t3 (List.mem_of_getElem? (i := 4) rfl), lw_t3 (List.mem_of_getElem? (i := 5) rfl)⟩
theorem lw_p6 : lw_okq (⟨"PuzzleWed$Reader", "product", "()LPuzzleWed$Sum;"⟩, 7) := ⟨⟨by decide +kernel, by decide +kernel⟩, lw_t2 (List.mem_of_getElem? (i := 106) rfl), lw_t3 (List.mem_of_getElem? (i := 10) rfl), lw_t3 (List.mem_of_getElem? (i := 11) rfl)⟩
theorem lw_p7 : lw_okq (⟨"PuzzleWed$Reader", "factor", "()LPuzzleWed$Sum;"⟩, 7) := ⟨⟨by decide +kernel, by decide +kernel⟩, lw_t2 (List.mem_of_getElem? (i := 106) rfl), lw_t3 (List.mem_of_getElem? (i := 14) rfl), lw_t3 (List.mem_of_getElem? (i := 15) rfl)⟩
theorem lw_p8 : lw_okq (⟨"PuzzleWed$Reader", "opens", "()V"⟩, 7) := ⟨⟨by decide +kernel, by decide +kernel⟩, lw_t2 (List.mem_of_getElem? (i := 106) rfl), lw_t3 (List.mem_of_getElem? (i := 18) rfl), lw_t3 (List.mem_of_getElem? (i := 19) rfl)⟩
theorem lw_p9 : lw_okq (⟨"PuzzleWed$Reader", "must", "(I)V"⟩, 7) := ⟨⟨by decide +kernel, by decide +kernel⟩, lw_t2 (List.mem_of_getElem? (i := 106) rfl), lw_t3 (List.mem_of_getElem? (i := 22) rfl), lw_t3 (List.mem_of_getElem? (i := 23) rfl)⟩
theorem lw_p10 : lw_okq (⟨"PuzzleWed$Reader", "seesDigit", "()Z"⟩, 7) := ⟨⟨by decide +kernel, by decide +kernel⟩, lw_t2 (List.mem_of_getElem? (i := 106) rfl), lw_t3 (List.mem_of_getElem? (i := 26) rfl), lw_t3 (List.mem_of_getElem? (i := 27) rfl)⟩
theorem lw_p11 : lw_okq (⟨"PuzzleWed$Reader", "number", "()I"⟩, 7) := ⟨⟨by decide +kernel, by decide +kernel⟩, lw_t2 (List.mem_of_getElem? (i := 106) rfl), lw_t3 (List.mem_of_getElem? (i := 32) rfl), lw_t3 (List.mem_of_getElem? (i := 33) rfl)⟩
theorem lw_p12 : lw_okq (⟨"PuzzleWed$Reader", "condition", "()LPuzzleWed$Condition;"⟩, 7) := ⟨⟨by decide +kernel, by decide +kernel⟩, lw_t2 (List.mem_of_getElem? (i := 106) rfl), lw_t3 (List.mem_of_getElem? (i := 73) rfl), lw_t3 (List.mem_of_getElem? (i := 74) rfl)⟩
theorem lw_p13 : lw_okq (⟨"PuzzleWed$Reader", "pieces", "()LPuzzleWed$Condition;"⟩, 7) := ⟨⟨by decide +kernel, by decide +kernel⟩, lw_t2 (List.mem_of_getElem? (i := 106) rfl), lw_t3 (List.mem_of_getElem? (i := 79) rfl), lw_t3 (List.mem_of_getElem? (i := 80) rfl)⟩
theorem lw_p14 : lw_okq (⟨"PuzzleWed$Reader", "piece", "()LPuzzleWed$Condition;"⟩, 7) := ⟨⟨by decide +kernel, by decide +kernel⟩, lw_t2 (List.mem_of_getElem? (i := 106) rfl), lw_t3 (List.mem_of_getElem? (i := 83) rfl), lw_t3 (List.mem_of_getElem? (i := 84) rfl)⟩
theorem lw_p15 : lw_okq (⟨"PuzzleWed", "isPerson", "(I)Z"⟩, 18) := ⟨⟨by decide +kernel, by decide +kernel⟩, lw_t1 (List.mem_of_getElem? (i := 29) rfl), lw_t4 (List.mem_of_getElem? (i := 36) rfl), lw_t4 (List.mem_of_getElem? (i := 37) rfl)⟩
def lw_privs_1 : List (MethodName × Nat) := [(⟨"PuzzleWed", "push", "(I)V"⟩, 18), (⟨"PuzzleWed$Reader", "isGood", "()Z"⟩, 7), (⟨"PuzzleWed$Reader", "clause", "()V"⟩, 7), (⟨"PuzzleWed$Reader", "here", "()I"⟩, 7), (⟨"PuzzleWed$Reader", "bad", "(II)V"⟩, 7), (⟨"PuzzleWed$Reader", "sum", "()LPuzzleWed$Sum;"⟩, 7), (⟨"PuzzleWed$Reader", "product", "()LPuzzleWed$Sum;"⟩, 7), (⟨"PuzzleWed$Reader", "factor", "()LPuzzleWed$Sum;"⟩, 7), (⟨"PuzzleWed$Reader", "opens", "()V"⟩, 7), (⟨"PuzzleWed$Reader", "must", "(I)V"⟩, 7), (⟨"PuzzleWed$Reader", "seesDigit", "()Z"⟩, 7), (⟨"PuzzleWed$Reader", "number", "()I"⟩, 7), (⟨"PuzzleWed$Reader", "condition", "()LPuzzleWed$Condition;"⟩, 7), (⟨"PuzzleWed$Reader", "pieces", "()LPuzzleWed$Condition;"⟩, 7), (⟨"PuzzleWed$Reader", "piece", "()LPuzzleWed$Condition;"⟩, 7), (⟨"PuzzleWed", "isPerson", "(I)Z"⟩, 18)]
theorem lw_r1 : ∀ q ∈ lw_privs_1, lw_okq q := List.forall_mem_cons.mpr ⟨lw_p0, List.forall_mem_cons.mpr ⟨lw_p1, List.forall_mem_cons.mpr ⟨lw_p2, List.forall_mem_cons.mpr ⟨lw_p3, List.forall_mem_cons.mpr ⟨lw_p4, List.forall_mem_cons.mpr ⟨lw_p5, List.forall_mem_cons.mpr ⟨lw_p6, List.forall_mem_cons.mpr ⟨lw_p7, List.forall_mem_cons.mpr ⟨lw_p8, List.forall_mem_cons.mpr ⟨lw_p9, List.forall_mem_cons.mpr ⟨lw_p10, List.forall_mem_cons.mpr ⟨lw_p11, List.forall_mem_cons.mpr ⟨lw_p12, List.forall_mem_cons.mpr ⟨lw_p13, List.forall_mem_cons.mpr ⟨lw_p14, List.forall_mem_cons.mpr ⟨lw_p15, fun _ h => absurd h List.not_mem_nil⟩⟩⟩⟩⟩⟩⟩⟩⟩⟩⟩⟩⟩⟩⟩⟩
theorem lw_p16 : lw_okq (⟨"PuzzleWed$Land", "dayGoes", "()V"⟩, 8) := ⟨⟨by decide +kernel, by decide +kernel⟩, lw_t1 (List.mem_of_getElem? (i := 67) rfl), lw_t4 (List.mem_of_getElem? (i := 83) rfl), lw_t4 (List.mem_of_getElem? (i := 84) rfl)⟩
theorem lw_p17 : lw_okq (⟨"PuzzleWed$Land", "travels", "(LPuzzleWed$Person;)V"⟩, 8) := ⟨⟨by decide +kernel, by decide +kernel⟩, lw_t1 (List.mem_of_getElem? (i := 67) rfl), lw_t4 (List.mem_of_getElem? (i := 87) rfl), lw_t4 (List.mem_of_getElem? (i := 88) rfl)⟩
theorem lw_p18 : lw_okq (⟨"PuzzleWed$Land", "meets", "(II)V"⟩, 8) := ⟨⟨by decide +kernel, by decide +kernel⟩, lw_t1 (List.mem_of_getElem? (i := 67) rfl), lw_t4 (List.mem_of_getElem? (i := 92) rfl), lw_t4 (List.mem_of_getElem? (i := 93) rfl)⟩
theorem lw_p19 : lw_okq (⟨"PuzzleWed$Land", "tries", "(II)V"⟩, 8) := ⟨⟨by decide +kernel, by decide +kernel⟩, lw_t1 (List.mem_of_getElem? (i := 67) rfl), lw_t4 (List.mem_of_getElem? (i := 99) rfl), lw_t4 (List.mem_of_getElem? (i := 100) rfl)⟩
theorem lw_p20 : lw_okq (⟨"PuzzleWed$Land", "isFirst", "(II)Z"⟩, 8) := ⟨⟨by decide +kernel, by decide +kernel⟩, lw_t1 (List.mem_of_getElem? (i := 67) rfl), lw_t4 (List.mem_of_getElem? (i := 127) rfl), lw_t4 (List.mem_of_getElem? (i := 128) rfl)⟩
theorem lw_p21 : lw_okq (⟨"PuzzleWed$Land", "creaks", "(II)V"⟩, 8) := ⟨⟨by decide +kernel, by decide +kernel⟩, lw_t1 (List.mem_of_getElem? (i := 67) rfl), lw_t4 (List.mem_of_getElem? (i := 208) rfl), lw_t4 (List.mem_of_getElem? (i := 209) rfl)⟩
theorem lw_p22 : lw_okq (⟨"PuzzleWed$Land", "draw", "()I"⟩, 8) := ⟨⟨by decide +kernel, by decide +kernel⟩, lw_t1 (List.mem_of_getElem? (i := 67) rfl), lw_t4 (List.mem_of_getElem? (i := 212) rfl), lw_t4 (List.mem_of_getElem? (i := 213) rfl)⟩
theorem lw_p23 : lw_okq (⟨"PuzzleWed", "fitting", "(I)I"⟩, 18) := ⟨⟨by decide +kernel, by decide +kernel⟩, lw_t1 (List.mem_of_getElem? (i := 29) rfl), lw_t5 (List.mem_of_getElem? (i := 5) rfl), lw_t5 (List.mem_of_getElem? (i := 6) rfl)⟩
theorem lw_p24 : lw_okq (⟨"PuzzleWed", "areFit", "(II)Z"⟩, 18) := ⟨⟨by decide +kernel, by decide +kernel⟩, lw_t1 (List.mem_of_getElem? (i := 29) rfl), lw_t5 (List.mem_of_getElem? (i := 27) rfl), lw_t5 (List.mem_of_getElem? (i := 28) rfl)⟩
theorem lw_p25 : lw_okq (⟨"PuzzleWed", "isAsker", "(I)Z"⟩, 18) := ⟨⟨by decide +kernel, by decide +kernel⟩, lw_t1 (List.mem_of_getElem? (i := 29) rfl), lw_t5 (List.mem_of_getElem? (i := 35) rfl), lw_t5 (List.mem_of_getElem? (i := 36) rfl)⟩
theorem lw_p26 : lw_okq (⟨"PuzzleWed", "laysBest", "()I"⟩, 18) := ⟨⟨by decide +kernel, by decide +kernel⟩, lw_t1 (List.mem_of_getElem? (i := 29) rfl), lw_t5 (List.mem_of_getElem? (i := 39) rfl), lw_t5 (List.mem_of_getElem? (i := 40) rfl)⟩
theorem lw_p27 : lw_okq (⟨"PuzzleWed", "gainBy", "(III)I"⟩, 18) := ⟨⟨by decide +kernel, by decide +kernel⟩, lw_t1 (List.mem_of_getElem? (i := 29) rfl), lw_t5 (List.mem_of_getElem? (i := 44) rfl), lw_t5 (List.mem_of_getElem? (i := 45) rfl)⟩
theorem lw_p28 : lw_okq (⟨"PuzzleWed", "laysStable", "()V"⟩, 18) := ⟨⟨by decide +kernel, by decide +kernel⟩, lw_t1 (List.mem_of_getElem? (i := 29) rfl), lw_t5 (List.mem_of_getElem? (i := 52) rfl), lw_t5 (List.mem_of_getElem? (i := 53) rfl)⟩
theorem lw_p29 : lw_okq (⟨"PuzzleWed", "nextFor", "(I)I"⟩, 18) := ⟨⟨by decide +kernel, by decide +kernel⟩, lw_t1 (List.mem_of_getElem? (i := 29) rfl), lw_t5 (List.mem_of_getElem? (i := 56) rfl), lw_t5 (List.mem_of_getElem? (i := 57) rfl)⟩
theorem lw_p30 : lw_okq (⟨"PuzzleWed", "likesMore", "(III)Z"⟩, 18) := ⟨⟨by decide +kernel, by decide +kernel⟩, lw_t1 (List.mem_of_getElem? (i := 29) rfl), lw_t5 (List.mem_of_getElem? (i := 60) rfl), lw_t5 (List.mem_of_getElem? (i := 61) rfl)⟩
theorem lw_p31 : lw_okq (⟨"PuzzleWed", "wouldLeave", "(II)Z"⟩, 18) := ⟨⟨by decide +kernel, by decide +kernel⟩, lw_t1 (List.mem_of_getElem? (i := 29) rfl), lw_t5 (List.mem_of_getElem? (i := 68) rfl), lw_t5 (List.mem_of_getElem? (i := 69) rfl)⟩
def lw_privs_2 : List (MethodName × Nat) := [(⟨"PuzzleWed$Land", "dayGoes", "()V"⟩, 8), (⟨"PuzzleWed$Land", "travels", "(LPuzzleWed$Person;)V"⟩, 8), (⟨"PuzzleWed$Land", "meets", "(II)V"⟩, 8), (⟨"PuzzleWed$Land", "tries", "(II)V"⟩, 8), (⟨"PuzzleWed$Land", "isFirst", "(II)Z"⟩, 8), (⟨"PuzzleWed$Land", "creaks", "(II)V"⟩, 8), (⟨"PuzzleWed$Land", "draw", "()I"⟩, 8), (⟨"PuzzleWed", "fitting", "(I)I"⟩, 18), (⟨"PuzzleWed", "areFit", "(II)Z"⟩, 18), (⟨"PuzzleWed", "isAsker", "(I)Z"⟩, 18), (⟨"PuzzleWed", "laysBest", "()I"⟩, 18), (⟨"PuzzleWed", "gainBy", "(III)I"⟩, 18), (⟨"PuzzleWed", "laysStable", "()V"⟩, 18), (⟨"PuzzleWed", "nextFor", "(I)I"⟩, 18), (⟨"PuzzleWed", "likesMore", "(III)Z"⟩, 18), (⟨"PuzzleWed", "wouldLeave", "(II)Z"⟩, 18)]
theorem lw_r2 : ∀ q ∈ lw_privs_2, lw_okq q := List.forall_mem_cons.mpr ⟨lw_p16, List.forall_mem_cons.mpr ⟨lw_p17, List.forall_mem_cons.mpr ⟨lw_p18, List.forall_mem_cons.mpr ⟨lw_p19, List.forall_mem_cons.mpr ⟨lw_p20, List.forall_mem_cons.mpr ⟨lw_p21, List.forall_mem_cons.mpr ⟨lw_p22, List.forall_mem_cons.mpr ⟨lw_p23, List.forall_mem_cons.mpr ⟨lw_p24, List.forall_mem_cons.mpr ⟨lw_p25, List.forall_mem_cons.mpr ⟨lw_p26, List.forall_mem_cons.mpr ⟨lw_p27, List.forall_mem_cons.mpr ⟨lw_p28, List.forall_mem_cons.mpr ⟨lw_p29, List.forall_mem_cons.mpr ⟨lw_p30, List.forall_mem_cons.mpr ⟨lw_p31, fun _ h => absurd h List.not_mem_nil⟩⟩⟩⟩⟩⟩⟩⟩⟩⟩⟩⟩⟩⟩⟩⟩
theorem lw_p32 : lw_okq (⟨"PuzzleWed", "isSearch", "(I)Z"⟩, 18) := ⟨⟨by decide +kernel, by decide +kernel⟩, lw_t1 (List.mem_of_getElem? (i := 29) rfl), lw_t5 (List.mem_of_getElem? (i := 76) rfl), lw_t5 (List.mem_of_getElem? (i := 77) rfl)⟩
theorem lw_p33 : lw_okq (⟨"PuzzleWed", "searches", "(IIIII)V"⟩, 18) := ⟨⟨by decide +kernel, by decide +kernel⟩, lw_t1 (List.mem_of_getElem? (i := 29) rfl), lw_t5 (List.mem_of_getElem? (i := 81) rfl), lw_t5 (List.mem_of_getElem? (i := 82) rfl)⟩
theorem lw_p34 : lw_okq (⟨"PuzzleWed", "laysWorks", "(LPuzzleWed$Piece;LPuzzleWed$Piece;LPuzzleWed$Piece;II)V"⟩, 18) := ⟨⟨by decide +kernel, by decide +kernel⟩, lw_t1 (List.mem_of_getElem? (i := 29) rfl), lw_t5 (List.mem_of_getElem? (i := 92) rfl), lw_t5 (List.mem_of_getElem? (i := 93) rfl)⟩
theorem lw_p35 : lw_okq (⟨"PuzzleWed", "workBy", "(LPuzzleWed$Piece;LPuzzleWed$Piece;LPuzzleWed$Piece;IIII)I"⟩, 18) := ⟨⟨by decide +kernel, by decide +kernel⟩, lw_t1 (List.mem_of_getElem? (i := 29) rfl), lw_t5 (List.mem_of_getElem? (i := 96) rfl), lw_t5 (List.mem_of_getElem? (i := 97) rfl)⟩
theorem lw_p36 : lw_okq (⟨"PuzzleWed", "steams", "(LPuzzleWed$Piece;II)V"⟩, 18) := ⟨⟨by decide +kernel, by decide +kernel⟩, lw_t1 (List.mem_of_getElem? (i := 29) rfl), lw_t5 (List.mem_of_getElem? (i := 110) rfl), lw_t5 (List.mem_of_getElem? (i := 111) rfl)⟩
theorem lw_p37 : lw_okq (⟨"PuzzleWed", "fitsAll", "(II)Z"⟩, 18) := ⟨⟨by decide +kernel, by decide +kernel⟩, lw_t1 (List.mem_of_getElem? (i := 29) rfl), lw_t5 (List.mem_of_getElem? (i := 125) rfl), lw_t5 (List.mem_of_getElem? (i := 126) rfl)⟩
theorem lw_p38 : lw_okq (⟨"PuzzleWed", "isMade", "(ILPuzzleWed$Piece;LPuzzleWed$Piece;)Z"⟩, 18) := ⟨⟨by decide +kernel, by decide +kernel⟩, lw_t1 (List.mem_of_getElem? (i := 29) rfl), lw_t5 (List.mem_of_getElem? (i := 129) rfl), lw_t5 (List.mem_of_getElem? (i := 130) rfl)⟩
theorem lw_p39 : lw_okq (⟨"PuzzleWed", "inTown", "(I)I"⟩, 18) := ⟨⟨by decide +kernel, by decide +kernel⟩, lw_t1 (List.mem_of_getElem? (i := 29) rfl), lw_t5 (List.mem_of_getElem? (i := 166) rfl), lw_t5 (List.mem_of_getElem? (i := 167) rfl)⟩
theorem lw_p40 : lw_okq (⟨"PuzzleWed", "told", "(Z)I"⟩, 18) := ⟨⟨by decide +kernel, by decide +kernel⟩, lw_t1 (List.mem_of_getElem? (i := 29) rfl), lw_t5 (List.mem_of_getElem? (i := 170) rfl), lw_t5 (List.mem_of_getElem? (i := 171) rfl)⟩
theorem lw_p41 : lw_okq (⟨"PuzzleWedModel", "isPerson", "(I)Z"⟩, 47) := ⟨⟨by decide +kernel, by decide +kernel⟩, lw_t5 (List.mem_of_getElem? (i := 174) rfl), lw_t6 (List.mem_of_getElem? (i := 91) rfl), lw_t6 (List.mem_of_getElem? (i := 92) rfl)⟩
theorem lw_p42 : lw_okq (⟨"PuzzleWedModel", "lives", "(I)Z"⟩, 47) := ⟨⟨by decide +kernel, by decide +kernel⟩, lw_t5 (List.mem_of_getElem? (i := 174) rfl), lw_t6 (List.mem_of_getElem? (i := 109) rfl), lw_t6 (List.mem_of_getElem? (i := 110) rfl)⟩
theorem lw_p43 : lw_okq (⟨"PuzzleWedModel", "parts", "(I)V"⟩, 47) := ⟨⟨by decide +kernel, by decide +kernel⟩, lw_t5 (List.mem_of_getElem? (i := 174) rfl), lw_t6 (List.mem_of_getElem? (i := 113) rfl), lw_t6 (List.mem_of_getElem? (i := 114) rfl)⟩
theorem lw_p44 : lw_okq (⟨"PuzzleWedModel", "isFree", "(I)Z"⟩, 47) := ⟨⟨by decide +kernel, by decide +kernel⟩, lw_t5 (List.mem_of_getElem? (i := 174) rfl), lw_t6 (List.mem_of_getElem? (i := 121) rfl), lw_t6 (List.mem_of_getElem? (i := 122) rfl)⟩
theorem lw_p45 : lw_okq (⟨"PuzzleWedModel", "wedsTwo", "(II)V"⟩, 47) := ⟨⟨by decide +kernel, by decide +kernel⟩, lw_t5 (List.mem_of_getElem? (i := 174) rfl), lw_t6 (List.mem_of_getElem? (i := 125) rfl), lw_t6 (List.mem_of_getElem? (i := 126) rfl)⟩
theorem lw_p46 : lw_okq (⟨"PuzzleWedModel", "types", "(I)V"⟩, 47) := ⟨⟨by decide +kernel, by decide +kernel⟩, lw_t5 (List.mem_of_getElem? (i := 174) rfl), lw_t6 (List.mem_of_getElem? (i := 133) rfl), lw_t6 (List.mem_of_getElem? (i := 134) rfl)⟩
theorem lw_p47 : lw_okq (⟨"PuzzleWedModel", "readsClause", "()Z"⟩, 47) := ⟨⟨by decide +kernel, by decide +kernel⟩, lw_t5 (List.mem_of_getElem? (i := 174) rfl), lw_t6 (List.mem_of_getElem? (i := 141) rfl), lw_t6 (List.mem_of_getElem? (i := 142) rfl)⟩
def lw_privs_3 : List (MethodName × Nat) := [(⟨"PuzzleWed", "isSearch", "(I)Z"⟩, 18), (⟨"PuzzleWed", "searches", "(IIIII)V"⟩, 18), (⟨"PuzzleWed", "laysWorks", "(LPuzzleWed$Piece;LPuzzleWed$Piece;LPuzzleWed$Piece;II)V"⟩, 18), (⟨"PuzzleWed", "workBy", "(LPuzzleWed$Piece;LPuzzleWed$Piece;LPuzzleWed$Piece;IIII)I"⟩, 18), (⟨"PuzzleWed", "steams", "(LPuzzleWed$Piece;II)V"⟩, 18), (⟨"PuzzleWed", "fitsAll", "(II)Z"⟩, 18), (⟨"PuzzleWed", "isMade", "(ILPuzzleWed$Piece;LPuzzleWed$Piece;)Z"⟩, 18), (⟨"PuzzleWed", "inTown", "(I)I"⟩, 18), (⟨"PuzzleWed", "told", "(Z)I"⟩, 18), (⟨"PuzzleWedModel", "isPerson", "(I)Z"⟩, 47), (⟨"PuzzleWedModel", "lives", "(I)Z"⟩, 47), (⟨"PuzzleWedModel", "parts", "(I)V"⟩, 47), (⟨"PuzzleWedModel", "isFree", "(I)Z"⟩, 47), (⟨"PuzzleWedModel", "wedsTwo", "(II)V"⟩, 47), (⟨"PuzzleWedModel", "types", "(I)V"⟩, 47), (⟨"PuzzleWedModel", "readsClause", "()Z"⟩, 47)]
theorem lw_r3 : ∀ q ∈ lw_privs_3, lw_okq q := List.forall_mem_cons.mpr ⟨lw_p32, List.forall_mem_cons.mpr ⟨lw_p33, List.forall_mem_cons.mpr ⟨lw_p34, List.forall_mem_cons.mpr ⟨lw_p35, List.forall_mem_cons.mpr ⟨lw_p36, List.forall_mem_cons.mpr ⟨lw_p37, List.forall_mem_cons.mpr ⟨lw_p38, List.forall_mem_cons.mpr ⟨lw_p39, List.forall_mem_cons.mpr ⟨lw_p40, List.forall_mem_cons.mpr ⟨lw_p41, List.forall_mem_cons.mpr ⟨lw_p42, List.forall_mem_cons.mpr ⟨lw_p43, List.forall_mem_cons.mpr ⟨lw_p44, List.forall_mem_cons.mpr ⟨lw_p45, List.forall_mem_cons.mpr ⟨lw_p46, List.forall_mem_cons.mpr ⟨lw_p47, fun _ h => absurd h List.not_mem_nil⟩⟩⟩⟩⟩⟩⟩⟩⟩⟩⟩⟩⟩⟩⟩⟩
theorem lw_p48 : lw_okq (⟨"PuzzleWedModel", "here", "()I"⟩, 47) := ⟨⟨by decide +kernel, by decide +kernel⟩, lw_t5 (List.mem_of_getElem? (i := 174) rfl), lw_t6 (List.mem_of_getElem? (i := 145) rfl), lw_t6 (List.mem_of_getElem? (i := 146) rfl)⟩
theorem lw_p49 : lw_okq (⟨"PuzzleWedModel", "wrongAt", "(II)Z"⟩, 47) := ⟨⟨by decide +kernel, by decide +kernel⟩, lw_t5 (List.mem_of_getElem? (i := 174) rfl), lw_t6 (List.mem_of_getElem? (i := 152) rfl), lw_t6 (List.mem_of_getElem? (i := 153) rfl)⟩
theorem lw_p50 : lw_okq (⟨"PuzzleWedModel", "readsSum", "()Z"⟩, 47) := ⟨⟨by decide +kernel, by decide +kernel⟩, lw_t5 (List.mem_of_getElem? (i := 174) rfl), lw_t6 (List.mem_of_getElem? (i := 156) rfl), lw_t6 (List.mem_of_getElem? (i := 157) rfl)⟩
theorem lw_p51 : lw_okq (⟨"PuzzleWedModel", "readsFactor", "()Z"⟩, 47) := ⟨⟨by decide +kernel, by decide +kernel⟩, lw_t5 (List.mem_of_getElem? (i := 174) rfl), lw_t6 (List.mem_of_getElem? (i := 160) rfl), lw_t6 (List.mem_of_getElem? (i := 161) rfl)⟩
theorem lw_p52 : lw_okq (⟨"PuzzleWedModel", "opens", "(I)Z"⟩, 47) := ⟨⟨by decide +kernel, by decide +kernel⟩, lw_t5 (List.mem_of_getElem? (i := 174) rfl), lw_t6 (List.mem_of_getElem? (i := 164) rfl), lw_t6 (List.mem_of_getElem? (i := 165) rfl)⟩
theorem lw_p53 : lw_okq (⟨"PuzzleWedModel", "isDigit", "()Z"⟩, 47) := ⟨⟨by decide +kernel, by decide +kernel⟩, lw_t5 (List.mem_of_getElem? (i := 174) rfl), lw_t6 (List.mem_of_getElem? (i := 169) rfl), lw_t6 (List.mem_of_getElem? (i := 170) rfl)⟩
theorem lw_p54 : lw_okq (⟨"PuzzleWedModel", "readsNumber", "()Z"⟩, 47) := ⟨⟨by decide +kernel, by decide +kernel⟩, lw_t5 (List.mem_of_getElem? (i := 174) rfl), lw_t6 (List.mem_of_getElem? (i := 173) rfl), lw_t6 (List.mem_of_getElem? (i := 174) rfl)⟩
theorem lw_p55 : lw_okq (⟨"PuzzleWedModel", "notes", "(II)V"⟩, 47) := ⟨⟨by decide +kernel, by decide +kernel⟩, lw_t5 (List.mem_of_getElem? (i := 174) rfl), lw_t6 (List.mem_of_getElem? (i := 177) rfl), lw_t6 (List.mem_of_getElem? (i := 178) rfl)⟩
theorem lw_p56 : lw_okq (⟨"PuzzleWedModel", "closesSums", "(Z)V"⟩, 47) := ⟨⟨by decide +kernel, by decide +kernel⟩, lw_t5 (List.mem_of_getElem? (i := 174) rfl), lw_t6 (List.mem_of_getElem? (i := 187) rfl), lw_t6 (List.mem_of_getElem? (i := 188) rfl)⟩
theorem lw_p57 : lw_okq (⟨"PuzzleWedModel", "waitTop", "()I"⟩, 47) := ⟨⟨by decide +kernel, by decide +kernel⟩, lw_t5 (List.mem_of_getElem? (i := 174) rfl), lw_t6 (List.mem_of_getElem? (i := 191) rfl), lw_t6 (List.mem_of_getElem? (i := 192) rfl)⟩
theorem lw_p58 : lw_okq (⟨"PuzzleWedModel", "hasOpenSum", "(I)Z"⟩, 47) := ⟨⟨by decide +kernel, by decide +kernel⟩, lw_t5 (List.mem_of_getElem? (i := 174) rfl), lw_t6 (List.mem_of_getElem? (i := 195) rfl), lw_t6 (List.mem_of_getElem? (i := 196) rfl)⟩
theorem lw_p59 : lw_okq (⟨"PuzzleWedModel", "readsCondition", "()Z"⟩, 47) := ⟨⟨by decide +kernel, by decide +kernel⟩, lw_t5 (List.mem_of_getElem? (i := 174) rfl), lw_t6 (List.mem_of_getElem? (i := 199) rfl), lw_t6 (List.mem_of_getElem? (i := 200) rfl)⟩
theorem lw_p60 : lw_okq (⟨"PuzzleWedModel", "readsCompared", "()Z"⟩, 47) := ⟨⟨by decide +kernel, by decide +kernel⟩, lw_t5 (List.mem_of_getElem? (i := 174) rfl), lw_t6 (List.mem_of_getElem? (i := 203) rfl), lw_t6 (List.mem_of_getElem? (i := 204) rfl)⟩
theorem lw_p61 : lw_okq (⟨"PuzzleWedModel", "endsPiece", "()V"⟩, 47) := ⟨⟨by decide +kernel, by decide +kernel⟩, lw_t5 (List.mem_of_getElem? (i := 174) rfl), lw_t6 (List.mem_of_getElem? (i := 207) rfl), lw_t6 (List.mem_of_getElem? (i := 208) rfl)⟩
theorem lw_p62 : lw_okq (⟨"PuzzleWedModel", "lands", "(Z)V"⟩, 47) := ⟨⟨by decide +kernel, by decide +kernel⟩, lw_t5 (List.mem_of_getElem? (i := 174) rfl), lw_t6 (List.mem_of_getElem? (i := 211) rfl), lw_t6 (List.mem_of_getElem? (i := 212) rfl)⟩
theorem lw_p63 : lw_okq (⟨"PuzzleWedModel", "jumps", "(I)V"⟩, 47) := ⟨⟨by decide +kernel, by decide +kernel⟩, lw_t5 (List.mem_of_getElem? (i := 174) rfl), lw_t6 (List.mem_of_getElem? (i := 215) rfl), lw_t6 (List.mem_of_getElem? (i := 216) rfl)⟩
def lw_privs_4 : List (MethodName × Nat) := [(⟨"PuzzleWedModel", "here", "()I"⟩, 47), (⟨"PuzzleWedModel", "wrongAt", "(II)Z"⟩, 47), (⟨"PuzzleWedModel", "readsSum", "()Z"⟩, 47), (⟨"PuzzleWedModel", "readsFactor", "()Z"⟩, 47), (⟨"PuzzleWedModel", "opens", "(I)Z"⟩, 47), (⟨"PuzzleWedModel", "isDigit", "()Z"⟩, 47), (⟨"PuzzleWedModel", "readsNumber", "()Z"⟩, 47), (⟨"PuzzleWedModel", "notes", "(II)V"⟩, 47), (⟨"PuzzleWedModel", "closesSums", "(Z)V"⟩, 47), (⟨"PuzzleWedModel", "waitTop", "()I"⟩, 47), (⟨"PuzzleWedModel", "hasOpenSum", "(I)Z"⟩, 47), (⟨"PuzzleWedModel", "readsCondition", "()Z"⟩, 47), (⟨"PuzzleWedModel", "readsCompared", "()Z"⟩, 47), (⟨"PuzzleWedModel", "endsPiece", "()V"⟩, 47), (⟨"PuzzleWedModel", "lands", "(Z)V"⟩, 47), (⟨"PuzzleWedModel", "jumps", "(I)V"⟩, 47)]
theorem lw_r4 : ∀ q ∈ lw_privs_4, lw_okq q := List.forall_mem_cons.mpr ⟨lw_p48, List.forall_mem_cons.mpr ⟨lw_p49, List.forall_mem_cons.mpr ⟨lw_p50, List.forall_mem_cons.mpr ⟨lw_p51, List.forall_mem_cons.mpr ⟨lw_p52, List.forall_mem_cons.mpr ⟨lw_p53, List.forall_mem_cons.mpr ⟨lw_p54, List.forall_mem_cons.mpr ⟨lw_p55, List.forall_mem_cons.mpr ⟨lw_p56, List.forall_mem_cons.mpr ⟨lw_p57, List.forall_mem_cons.mpr ⟨lw_p58, List.forall_mem_cons.mpr ⟨lw_p59, List.forall_mem_cons.mpr ⟨lw_p60, List.forall_mem_cons.mpr ⟨lw_p61, List.forall_mem_cons.mpr ⟨lw_p62, List.forall_mem_cons.mpr ⟨lw_p63, fun _ h => absurd h List.not_mem_nil⟩⟩⟩⟩⟩⟩⟩⟩⟩⟩⟩⟩⟩⟩⟩⟩
theorem lw_p64 : lw_okq (⟨"PuzzleWedModel", "takes", "(I)Z"⟩, 47) := ⟨⟨by decide +kernel, by decide +kernel⟩, lw_t5 (List.mem_of_getElem? (i := 174) rfl), lw_t6 (List.mem_of_getElem? (i := 219) rfl), lw_t6 (List.mem_of_getElem? (i := 220) rfl)⟩
theorem lw_p65 : lw_okq (⟨"PuzzleWedModel", "readsHeight", "()Z"⟩, 47) := ⟨⟨by decide +kernel, by decide +kernel⟩, lw_t5 (List.mem_of_getElem? (i := 174) rfl), lw_t6 (List.mem_of_getElem? (i := 227) rfl), lw_t6 (List.mem_of_getElem? (i := 228) rfl)⟩
theorem lw_p66 : lw_okq (⟨"PuzzleWedModel", "readsStop", "()Z"⟩, 47) := ⟨⟨by decide +kernel, by decide +kernel⟩, lw_t5 (List.mem_of_getElem? (i := 174) rfl), lw_t6 (List.mem_of_getElem? (i := 238) rfl), lw_t6 (List.mem_of_getElem? (i := 239) rfl)⟩
theorem lw_p67 : lw_okq (⟨"PuzzleWedModel", "daysGo", "(I)V"⟩, 47) := ⟨⟨by decide +kernel, by decide +kernel⟩, lw_t5 (List.mem_of_getElem? (i := 174) rfl), lw_t7 (List.mem_of_getElem? (i := 6) rfl), lw_t7 (List.mem_of_getElem? (i := 7) rfl)⟩
theorem lw_p68 : lw_okq (⟨"PuzzleWedModel", "travels", "(I)V"⟩, 47) := ⟨⟨by decide +kernel, by decide +kernel⟩, lw_t5 (List.mem_of_getElem? (i := 174) rfl), lw_t7 (List.mem_of_getElem? (i := 10) rfl), lw_t7 (List.mem_of_getElem? (i := 11) rfl)⟩
theorem lw_p69 : lw_okq (⟨"PuzzleWedModel", "triesIn", "(II)V"⟩, 47) := ⟨⟨by decide +kernel, by decide +kernel⟩, lw_t5 (List.mem_of_getElem? (i := 174) rfl), lw_t7 (List.mem_of_getElem? (i := 14) rfl), lw_t7 (List.mem_of_getElem? (i := 15) rfl)⟩
theorem lw_p70 : lw_okq (⟨"PuzzleWedModel", "haveTried", "(II)V"⟩, 47) := ⟨⟨by decide +kernel, by decide +kernel⟩, lw_t5 (List.mem_of_getElem? (i := 174) rfl), lw_t7 (List.mem_of_getElem? (i := 18) rfl), lw_t7 (List.mem_of_getElem? (i := 19) rfl)⟩
theorem lw_p71 : lw_okq (⟨"PuzzleWedModel", "fit", "(II)Z"⟩, 47) := ⟨⟨by decide +kernel, by decide +kernel⟩, lw_t5 (List.mem_of_getElem? (i := 174) rfl), lw_t7 (List.mem_of_getElem? (i := 22) rfl), lw_t7 (List.mem_of_getElem? (i := 23) rfl)⟩
theorem lw_p72 : lw_okq (⟨"PuzzleWedModel", "slackBy", "(II)I"⟩, 47) := ⟨⟨by decide +kernel, by decide +kernel⟩, lw_t5 (List.mem_of_getElem? (i := 174) rfl), lw_t7 (List.mem_of_getElem? (i := 26) rfl), lw_t7 (List.mem_of_getElem? (i := 27) rfl)⟩
theorem lw_p73 : lw_okq (⟨"PuzzleWedModel", "slackOf", "(II)I"⟩, 47) := ⟨⟨by decide +kernel, by decide +kernel⟩, lw_t5 (List.mem_of_getElem? (i := 174) rfl), lw_t7 (List.mem_of_getElem? (i := 31) rfl), lw_t7 (List.mem_of_getElem? (i := 32) rfl)⟩
theorem lw_p74 : lw_okq (⟨"PuzzleWedModel", "heightOf", "(II)I"⟩, 47) := ⟨⟨by decide +kernel, by decide +kernel⟩, lw_t5 (List.mem_of_getElem? (i := 174) rfl), lw_t7 (List.mem_of_getElem? (i := 35) rfl), lw_t7 (List.mem_of_getElem? (i := 36) rfl)⟩
theorem lw_p75 : lw_okq (⟨"PuzzleWedModel", "allowed", "(II)I"⟩, 47) := ⟨⟨by decide +kernel, by decide +kernel⟩, lw_t5 (List.mem_of_getElem? (i := 174) rfl), lw_t7 (List.mem_of_getElem? (i := 45) rfl), lw_t7 (List.mem_of_getElem? (i := 46) rfl)⟩
theorem lw_p76 : lw_okq (⟨"PuzzleWedModel", "feels", "(III)V"⟩, 47) := ⟨⟨by decide +kernel, by decide +kernel⟩, lw_t5 (List.mem_of_getElem? (i := 174) rfl), lw_t7 (List.mem_of_getElem? (i := 49) rfl), lw_t7 (List.mem_of_getElem? (i := 50) rfl)⟩
theorem lw_p77 : lw_okq (⟨"PuzzleWedModel", "byLaw", "(II)I"⟩, 47) := ⟨⟨by decide +kernel, by decide +kernel⟩, lw_t5 (List.mem_of_getElem? (i := 174) rfl), lw_t7 (List.mem_of_getElem? (i := 56) rfl), lw_t7 (List.mem_of_getElem? (i := 57) rfl)⟩
theorem lw_p78 : lw_okq (⟨"PuzzleWedModel", "comesTo", "(II)I"⟩, 47) := ⟨⟨by decide +kernel, by decide +kernel⟩, lw_t5 (List.mem_of_getElem? (i := 174) rfl), lw_t7 (List.mem_of_getElem? (i := 60) rfl), lw_t7 (List.mem_of_getElem? (i := 61) rfl)⟩
theorem lw_p79 : lw_okq (⟨"PuzzleWedModel", "wearsBy", "(II)I"⟩, 47) := ⟨⟨by decide +kernel, by decide +kernel⟩, lw_t5 (List.mem_of_getElem? (i := 174) rfl), lw_t7 (List.mem_of_getElem? (i := 67) rfl), lw_t7 (List.mem_of_getElem? (i := 68) rfl)⟩
def lw_privs_5 : List (MethodName × Nat) := [(⟨"PuzzleWedModel", "takes", "(I)Z"⟩, 47), (⟨"PuzzleWedModel", "readsHeight", "()Z"⟩, 47), (⟨"PuzzleWedModel", "readsStop", "()Z"⟩, 47), (⟨"PuzzleWedModel", "daysGo", "(I)V"⟩, 47), (⟨"PuzzleWedModel", "travels", "(I)V"⟩, 47), (⟨"PuzzleWedModel", "triesIn", "(II)V"⟩, 47), (⟨"PuzzleWedModel", "haveTried", "(II)V"⟩, 47), (⟨"PuzzleWedModel", "fit", "(II)Z"⟩, 47), (⟨"PuzzleWedModel", "slackBy", "(II)I"⟩, 47), (⟨"PuzzleWedModel", "slackOf", "(II)I"⟩, 47), (⟨"PuzzleWedModel", "heightOf", "(II)I"⟩, 47), (⟨"PuzzleWedModel", "allowed", "(II)I"⟩, 47), (⟨"PuzzleWedModel", "feels", "(III)V"⟩, 47), (⟨"PuzzleWedModel", "byLaw", "(II)I"⟩, 47), (⟨"PuzzleWedModel", "comesTo", "(II)I"⟩, 47), (⟨"PuzzleWedModel", "wearsBy", "(II)I"⟩, 47)]
theorem lw_r5 : ∀ q ∈ lw_privs_5, lw_okq q := List.forall_mem_cons.mpr ⟨lw_p64, List.forall_mem_cons.mpr ⟨lw_p65, List.forall_mem_cons.mpr ⟨lw_p66, List.forall_mem_cons.mpr ⟨lw_p67, List.forall_mem_cons.mpr ⟨lw_p68, List.forall_mem_cons.mpr ⟨lw_p69, List.forall_mem_cons.mpr ⟨lw_p70, List.forall_mem_cons.mpr ⟨lw_p71, List.forall_mem_cons.mpr ⟨lw_p72, List.forall_mem_cons.mpr ⟨lw_p73, List.forall_mem_cons.mpr ⟨lw_p74, List.forall_mem_cons.mpr ⟨lw_p75, List.forall_mem_cons.mpr ⟨lw_p76, List.forall_mem_cons.mpr ⟨lw_p77, List.forall_mem_cons.mpr ⟨lw_p78, List.forall_mem_cons.mpr ⟨lw_p79, fun _ h => absurd h List.not_mem_nil⟩⟩⟩⟩⟩⟩⟩⟩⟩⟩⟩⟩⟩⟩⟩⟩
theorem lw_p80 : lw_okq (⟨"PuzzleWedModel", "wearsAll", "(II)V"⟩, 47) := ⟨⟨by decide +kernel, by decide +kernel⟩, lw_t5 (List.mem_of_getElem? (i := 174) rfl), lw_t7 (List.mem_of_getElem? (i := 71) rfl), lw_t7 (List.mem_of_getElem? (i := 72) rfl)⟩
theorem lw_p81 : lw_okq (⟨"PuzzleWedModel", "creak", "(I)V"⟩, 47) := ⟨⟨by decide +kernel, by decide +kernel⟩, lw_t5 (List.mem_of_getElem? (i := 174) rfl), lw_t7 (List.mem_of_getElem? (i := 75) rfl), lw_t7 (List.mem_of_getElem? (i := 76) rfl)⟩
theorem lw_p82 : lw_okq (⟨"PuzzleWedModel", "draws", "()I"⟩, 47) := ⟨⟨by decide +kernel, by decide +kernel⟩, lw_t5 (List.mem_of_getElem? (i := 174) rfl), lw_t7 (List.mem_of_getElem? (i := 79) rfl), lw_t7 (List.mem_of_getElem? (i := 80) rfl)⟩
theorem lw_p83 : lw_okq (⟨"PuzzleWedModel", "wedTwos", "()I"⟩, 47) := ⟨⟨by decide +kernel, by decide +kernel⟩, lw_t5 (List.mem_of_getElem? (i := 174) rfl), lw_t7 (List.mem_of_getElem? (i := 91) rfl), lw_t7 (List.mem_of_getElem? (i := 92) rfl)⟩
theorem lw_p84 : lw_okq (⟨"PuzzleWedModel", "fitting", "(I)I"⟩, 47) := ⟨⟨by decide +kernel, by decide +kernel⟩, lw_t5 (List.mem_of_getElem? (i := 174) rfl), lw_t7 (List.mem_of_getElem? (i := 99) rfl), lw_t7 (List.mem_of_getElem? (i := 100) rfl)⟩
theorem lw_p85 : lw_okq (⟨"PuzzleWedModel", "likes", "(II)I"⟩, 47) := ⟨⟨by decide +kernel, by decide +kernel⟩, lw_t5 (List.mem_of_getElem? (i := 174) rfl), lw_t7 (List.mem_of_getElem? (i := 111) rfl), lw_t7 (List.mem_of_getElem? (i := 112) rfl)⟩
theorem lw_p86 : lw_okq (⟨"PuzzleWedModel", "laysFits", "()V"⟩, 47) := ⟨⟨by decide +kernel, by decide +kernel⟩, lw_t5 (List.mem_of_getElem? (i := 174) rfl), lw_t7 (List.mem_of_getElem? (i := 119) rfl), lw_t7 (List.mem_of_getElem? (i := 120) rfl)⟩
theorem lw_p87 : lw_okq (⟨"PuzzleWedModel", "isOne", "(II)Z"⟩, 47) := ⟨⟨by decide +kernel, by decide +kernel⟩, lw_t5 (List.mem_of_getElem? (i := 174) rfl), lw_t7 (List.mem_of_getElem? (i := 127) rfl), lw_t7 (List.mem_of_getElem? (i := 128) rfl)⟩
theorem lw_p88 : lw_okq (⟨"PuzzleWedModel", "laysMost", "()V"⟩, 47) := ⟨⟨by decide +kernel, by decide +kernel⟩, lw_t5 (List.mem_of_getElem? (i := 174) rfl), lw_t7 (List.mem_of_getElem? (i := 131) rfl), lw_t7 (List.mem_of_getElem? (i := 132) rfl)⟩
theorem lw_p89 : lw_okq (⟨"PuzzleWedModel", "mayGet", "(III)Z"⟩, 47) := ⟨⟨by decide +kernel, by decide +kernel⟩, lw_t5 (List.mem_of_getElem? (i := 174) rfl), lw_t7 (List.mem_of_getElem? (i := 136) rfl), lw_t7 (List.mem_of_getElem? (i := 137) rfl)⟩
theorem lw_p90 : lw_okq (⟨"PuzzleWedModel", "getsBy", "(I)I"⟩, 47) := ⟨⟨by decide +kernel, by decide +kernel⟩, lw_t5 (List.mem_of_getElem? (i := 174) rfl), lw_t7 (List.mem_of_getElem? (i := 140) rfl), lw_t7 (List.mem_of_getElem? (i := 141) rfl)⟩
theorem lw_p91 : lw_okq (⟨"PuzzleWedModel", "laysStable", "()V"⟩, 47) := ⟨⟨by decide +kernel, by decide +kernel⟩, lw_t5 (List.mem_of_getElem? (i := 174) rfl), lw_t7 (List.mem_of_getElem? (i := 148) rfl), lw_t7 (List.mem_of_getElem? (i := 149) rfl)⟩
theorem lw_p92 : lw_okq (⟨"PuzzleWedModel", "nextAsked", "(I)I"⟩, 47) := ⟨⟨by decide +kernel, by decide +kernel⟩, lw_t5 (List.mem_of_getElem? (i := 174) rfl), lw_t7 (List.mem_of_getElem? (i := 152) rfl), lw_t7 (List.mem_of_getElem? (i := 153) rfl)⟩
theorem lw_p93 : lw_okq (⟨"PuzzleWedModel", "keeps", "(II)Z"⟩, 47) := ⟨⟨by decide +kernel, by decide +kernel⟩, lw_t5 (List.mem_of_getElem? (i := 174) rfl), lw_t7 (List.mem_of_getElem? (i := 156) rfl), lw_t7 (List.mem_of_getElem? (i := 157) rfl)⟩
theorem lw_p94 : lw_okq (⟨"PuzzleWedModel", "likesWed", "(I)I"⟩, 47) := ⟨⟨by decide +kernel, by decide +kernel⟩, lw_t5 (List.mem_of_getElem? (i := 174) rfl), lw_t7 (List.mem_of_getElem? (i := 164) rfl), lw_t7 (List.mem_of_getElem? (i := 165) rfl)⟩
theorem lw_p95 : lw_okq (⟨"PuzzleWedModel", "areBounds", "(I)Z"⟩, 47) := ⟨⟨by decide +kernel, by decide +kernel⟩, lw_t5 (List.mem_of_getElem? (i := 174) rfl), lw_t7 (List.mem_of_getElem? (i := 172) rfl), lw_t7 (List.mem_of_getElem? (i := 173) rfl)⟩
def lw_privs_6 : List (MethodName × Nat) := [(⟨"PuzzleWedModel", "wearsAll", "(II)V"⟩, 47), (⟨"PuzzleWedModel", "creak", "(I)V"⟩, 47), (⟨"PuzzleWedModel", "draws", "()I"⟩, 47), (⟨"PuzzleWedModel", "wedTwos", "()I"⟩, 47), (⟨"PuzzleWedModel", "fitting", "(I)I"⟩, 47), (⟨"PuzzleWedModel", "likes", "(II)I"⟩, 47), (⟨"PuzzleWedModel", "laysFits", "()V"⟩, 47), (⟨"PuzzleWedModel", "isOne", "(II)Z"⟩, 47), (⟨"PuzzleWedModel", "laysMost", "()V"⟩, 47), (⟨"PuzzleWedModel", "mayGet", "(III)Z"⟩, 47), (⟨"PuzzleWedModel", "getsBy", "(I)I"⟩, 47), (⟨"PuzzleWedModel", "laysStable", "()V"⟩, 47), (⟨"PuzzleWedModel", "nextAsked", "(I)I"⟩, 47), (⟨"PuzzleWedModel", "keeps", "(II)Z"⟩, 47), (⟨"PuzzleWedModel", "likesWed", "(I)I"⟩, 47), (⟨"PuzzleWedModel", "areBounds", "(I)Z"⟩, 47)]
theorem lw_r6 : ∀ q ∈ lw_privs_6, lw_okq q := List.forall_mem_cons.mpr ⟨lw_p80, List.forall_mem_cons.mpr ⟨lw_p81, List.forall_mem_cons.mpr ⟨lw_p82, List.forall_mem_cons.mpr ⟨lw_p83, List.forall_mem_cons.mpr ⟨lw_p84, List.forall_mem_cons.mpr ⟨lw_p85, List.forall_mem_cons.mpr ⟨lw_p86, List.forall_mem_cons.mpr ⟨lw_p87, List.forall_mem_cons.mpr ⟨lw_p88, List.forall_mem_cons.mpr ⟨lw_p89, List.forall_mem_cons.mpr ⟨lw_p90, List.forall_mem_cons.mpr ⟨lw_p91, List.forall_mem_cons.mpr ⟨lw_p92, List.forall_mem_cons.mpr ⟨lw_p93, List.forall_mem_cons.mpr ⟨lw_p94, List.forall_mem_cons.mpr ⟨lw_p95, fun _ h => absurd h List.not_mem_nil⟩⟩⟩⟩⟩⟩⟩⟩⟩⟩⟩⟩⟩⟩⟩⟩
theorem lw_p96 : lw_okq (⟨"PuzzleWedModel", "readsRow", "(II)Z"⟩, 47) := ⟨⟨by decide +kernel, by decide +kernel⟩, lw_t5 (List.mem_of_getElem? (i := 174) rfl), lw_t7 (List.mem_of_getElem? (i := 176) rfl), lw_t7 (List.mem_of_getElem? (i := 177) rfl)⟩
theorem lw_p97 : lw_okq (⟨"PuzzleWedModel", "sumBy", "(I)I"⟩, 47) := ⟨⟨by decide +kernel, by decide +kernel⟩, lw_t5 (List.mem_of_getElem? (i := 174) rfl), lw_t7 (List.mem_of_getElem? (i := 180) rfl), lw_t7 (List.mem_of_getElem? (i := 181) rfl)⟩
theorem lw_p98 : lw_okq (⟨"PuzzleWedModel", "laysWork", "(I)V"⟩, 47) := ⟨⟨by decide +kernel, by decide +kernel⟩, lw_t5 (List.mem_of_getElem? (i := 174) rfl), lw_t7 (List.mem_of_getElem? (i := 191) rfl), lw_t7 (List.mem_of_getElem? (i := 192) rfl)⟩
theorem lw_p99 : lw_okq (⟨"PuzzleWedModel", "workBy", "(IIII)I"⟩, 47) := ⟨⟨by decide +kernel, by decide +kernel⟩, lw_t5 (List.mem_of_getElem? (i := 174) rfl), lw_t7 (List.mem_of_getElem? (i := 195) rfl), lw_t7 (List.mem_of_getElem? (i := 196) rfl)⟩
theorem lw_p100 : lw_okq (⟨"PuzzleWedModel", "workAt", "(III)I"⟩, 47) := ⟨⟨by decide +kernel, by decide +kernel⟩, lw_t5 (List.mem_of_getElem? (i := 174) rfl), lw_t7 (List.mem_of_getElem? (i := 199) rfl), lw_t7 (List.mem_of_getElem? (i := 200) rfl)⟩
theorem lw_p101 : lw_okq (⟨"PuzzleWedModel", "laysSanded", "(II)V"⟩, 47) := ⟨⟨by decide +kernel, by decide +kernel⟩, lw_t5 (List.mem_of_getElem? (i := 174) rfl), lw_t7 (List.mem_of_getElem? (i := 203) rfl), lw_t7 (List.mem_of_getElem? (i := 204) rfl)⟩
theorem lw_p102 : lw_okq (⟨"PuzzleWedModel", "slackOfSanded", "(I)I"⟩, 47) := ⟨⟨by decide +kernel, by decide +kernel⟩, lw_t5 (List.mem_of_getElem? (i := 174) rfl), lw_t7 (List.mem_of_getElem? (i := 207) rfl), lw_t7 (List.mem_of_getElem? (i := 208) rfl)⟩
theorem lw_p103 : lw_okq (⟨"PuzzleWedModel", "slackSteamed", "(IIII)I"⟩, 47) := ⟨⟨by decide +kernel, by decide +kernel⟩, lw_t5 (List.mem_of_getElem? (i := 174) rfl), lw_t7 (List.mem_of_getElem? (i := 215) rfl), lw_t7 (List.mem_of_getElem? (i := 216) rfl)⟩
theorem lw_p104 : lw_okq (⟨"PuzzleWedModel", "makesAll", "(II)Z"⟩, 47) := ⟨⟨by decide +kernel, by decide +kernel⟩, lw_t5 (List.mem_of_getElem? (i := 174) rfl), lw_t7 (List.mem_of_getElem? (i := 227) rfl), lw_t7 (List.mem_of_getElem? (i := 228) rfl)⟩
theorem lw_p105 : lw_okq (⟨"PuzzleWedModel", "makes", "(III)Z"⟩, 47) := ⟨⟨by decide +kernel, by decide +kernel⟩, lw_t5 (List.mem_of_getElem? (i := 174) rfl), lw_t7 (List.mem_of_getElem? (i := 231) rfl), lw_t7 (List.mem_of_getElem? (i := 232) rfl)⟩
theorem lw_p106 : lw_okq (⟨"PuzzleWedModel", "areSame", "(II)Z"⟩, 47) := ⟨⟨by decide +kernel, by decide +kernel⟩, lw_t5 (List.mem_of_getElem? (i := 174) rfl), lw_t7 (List.mem_of_getElem? (i := 239) rfl), lw_t8 (List.mem_of_getElem? (i := 0) rfl)⟩
def lw_privs_7 : List (MethodName × Nat) := [(⟨"PuzzleWedModel", "readsRow", "(II)Z"⟩, 47), (⟨"PuzzleWedModel", "sumBy", "(I)I"⟩, 47), (⟨"PuzzleWedModel", "laysWork", "(I)V"⟩, 47), (⟨"PuzzleWedModel", "workBy", "(IIII)I"⟩, 47), (⟨"PuzzleWedModel", "workAt", "(III)I"⟩, 47), (⟨"PuzzleWedModel", "laysSanded", "(II)V"⟩, 47), (⟨"PuzzleWedModel", "slackOfSanded", "(I)I"⟩, 47), (⟨"PuzzleWedModel", "slackSteamed", "(IIII)I"⟩, 47), (⟨"PuzzleWedModel", "makesAll", "(II)Z"⟩, 47), (⟨"PuzzleWedModel", "makes", "(III)Z"⟩, 47), (⟨"PuzzleWedModel", "areSame", "(II)Z"⟩, 47)]
theorem lw_r7 : ∀ q ∈ lw_privs_7, lw_okq q := List.forall_mem_cons.mpr ⟨lw_p96, List.forall_mem_cons.mpr ⟨lw_p97, List.forall_mem_cons.mpr ⟨lw_p98, List.forall_mem_cons.mpr ⟨lw_p99, List.forall_mem_cons.mpr ⟨lw_p100, List.forall_mem_cons.mpr ⟨lw_p101, List.forall_mem_cons.mpr ⟨lw_p102, List.forall_mem_cons.mpr ⟨lw_p103, List.forall_mem_cons.mpr ⟨lw_p104, List.forall_mem_cons.mpr ⟨lw_p105, List.forall_mem_cons.mpr ⟨lw_p106, fun _ h => absurd h List.not_mem_nil⟩⟩⟩⟩⟩⟩⟩⟩⟩⟩⟩
def lw_privs : List (MethodName × Nat) := lw_privs_1 ++ (lw_privs_2 ++ (lw_privs_3 ++ (lw_privs_4 ++ (lw_privs_5 ++ (lw_privs_6 ++ (lw_privs_7))))))
def lw_tbl : List Cond := k2_sels lw_privs ++ tables_1
theorem lw_privs_ok : ∀ q ∈ lw_privs, lw_okq q := by
  show ∀ q ∈ lw_privs_1 ++ (lw_privs_2 ++ (lw_privs_3 ++ (lw_privs_4 ++ (lw_privs_5 ++ (lw_privs_6 ++ (lw_privs_7)))))), lw_okq q
  exact List.forall_mem_append.mpr ⟨lw_r1, List.forall_mem_append.mpr ⟨lw_r2, List.forall_mem_append.mpr ⟨lw_r3, List.forall_mem_append.mpr ⟨lw_r4, List.forall_mem_append.mpr ⟨lw_r5, List.forall_mem_append.mpr ⟨lw_r6, lw_r7⟩⟩⟩⟩⟩⟩
-- ===== ONE list of words for every method: the tables' words that hold all through a run =====
def lw_all : List Cond := lw_tbl.filter goodWord
/-- a word of the tables by its place: claim/WORDS.tsv -/
theorem lw_w {w : Cond} (i : Nat) (h : lw_tbl[i]? = some w) (g : goodWord w = true) : w ∈ lw_all := List.mem_filter.mpr ⟨List.mem_of_getElem? h, g⟩
theorem lw_all_tbl {w : Cond} (h : w ∈ lw_all) : w ∈ lw_tbl := (List.mem_filter.mp h).1
theorem lw_self : GoodIn lw_all lw_all := fun w h => ⟨h, good_of_word (List.mem_filter.mp h).2⟩
/-- a class's field words, by their places -/
theorem lw_in (ws : List Cond) (ps : List Nat) (hp : ws = ps.filterMap (fun i => lw_tbl[i]?)) (hg : ws.all goodWord = true) : ∀ w ∈ ws, w ∈ lw_all := by
  intro w h
  have h1 := List.all_eq_true.mp hg w h
  rw [hp] at h
  obtain ⟨i, -, hi⟩ := List.mem_filterMap.mp h
  exact lw_w i hi h1
/-- the words of a contract for the method y with code b, L locals, answer r -/
abbrev ws_ (y : MethodName) (b : ByteArray) (L : Nat) (r : Option FieldType) : List Cond := Cond.code y b L r :: lw_all
theorem lw_meth {y : MethodName} {b : ByteArray} {L : Nat} {r : Option FieldType} (h : Cond.code y b L r ∈ lw_all) : GoodIn lw_all (ws_ y b L r) := by
  intro w hw
  rcases List.mem_cons.mp hw with e | e
  · rw [e]
    exact lw_self _ h
  · exact lw_self _ e
theorem lw_app {a c : List Cond} (ha : ∀ w ∈ a, w ∈ lw_all) (hc : GoodIn lw_all c) : GoodIn lw_all (a ++ c) := by
  intro w hw
  rcases List.mem_append.mp hw with e | e
  · exact lw_self w (ha w e)
  · exact hc w e
/-- what a call through an object asks: cwV n hts (lw_V ..) -/
theorem lw_V {own : String} {idx : Nat} {C : String} {y : MethodName} {b : ByteArray} {L : Nat} {r : Option FieldType} (h1 : Cond.methodLink own idx y ∈ lw_all) (h2 : Cond.instanceMethod y ∈ lw_all) (h3 : Cond.selects C y y ∈ lw_all) (h4 : Cond.initialized C ∈ lw_all) (h5 : Cond.code y b L r ∈ lw_all) : GoodIn lw_all (wsV own idx C y (ws_ y b L r)) := by
  refine lw_app ?_ (lw_meth h5)
  intro w hw
  simp only [List.mem_cons, List.not_mem_nil, or_false] at hw
  rcases hw with e | e | e | e
  · rw [e]; exact h1
  · rw [e]; exact h2
  · rw [e]; exact h3
  · rw [e]; exact h4
/-- what a static call asks: va_cwS n hts (lw_S ..) -/
theorem lw_S {own : String} {idx : Nat} {y : MethodName} {b : ByteArray} {L : Nat} {r : Option FieldType} (h1 : Cond.methodLink own idx y ∈ lw_all) (h2 : Cond.static y ∈ lw_all) (h3 : Cond.initialized y.cls ∈ lw_all) (h4 : Cond.code y b L r ∈ lw_all) : GoodIn lw_all (va_wsS own idx y (ws_ y b L r)) := by
  refine lw_app ?_ (lw_meth h4)
  intro w hw
  simp only [List.mem_cons, List.not_mem_nil, or_false] at hw
  rcases hw with e | e | e
  · rw [e]; exact h1
  · rw [e]; exact h2
  · rw [e]; exact h3
/-- the words of a contract for a method WITH HANDLERS (hh: its table) -/
abbrev wsW_ (y : MethodName) (b : ByteArray) (L : Nat) (r : Option FieldType) (hh : List (Nat × Nat × Nat × Nat)) : List Cond := Cond.codeWith y b L r hh :: lw_all
theorem lw_methW {y : MethodName} {b : ByteArray} {L : Nat} {r : Option FieldType} {hh : List (Nat × Nat × Nat × Nat)} (h : Cond.codeWith y b L r hh ∈ lw_all) : GoodIn lw_all (wsW_ y b L r hh) := by
  intro w hw
  rcases List.mem_cons.mp hw with e | e
  · rw [e]
    exact lw_self _ h
  · exact lw_self _ e
/-- any list of words by their places (lw_in), good -/
theorem lw_good {ws : List Cond} (h : ∀ w ∈ ws, w ∈ lw_all) : GoodIn lw_all ws := fun w hw => lw_self w (h w hw)
/-- what a call of a method with handlers asks: vx_cwVW n hts (lw_VW ..), vx_cwSW n hts (lw_SW ..) -/
theorem lw_VW {own : String} {idx : Nat} {C : String} {y : MethodName} {b : ByteArray} {L : Nat} {r : Option FieldType} {hh : List (Nat × Nat × Nat × Nat)} (h1 : Cond.methodLink own idx y ∈ lw_all) (h2 : Cond.instanceMethod y ∈ lw_all) (h3 : Cond.selects C y y ∈ lw_all) (h4 : Cond.initialized C ∈ lw_all) (h5 : Cond.codeWith y b L r hh ∈ lw_all) : GoodIn lw_all (wsV own idx C y (wsW_ y b L r hh)) := by
  refine lw_app ?_ (lw_methW h5)
  intro w hw
  simp only [List.mem_cons, List.not_mem_nil, or_false] at hw
  rcases hw with e | e | e | e
  · rw [e]; exact h1
  · rw [e]; exact h2
  · rw [e]; exact h3
  · rw [e]; exact h4
theorem lw_SW {own : String} {idx : Nat} {y : MethodName} {b : ByteArray} {L : Nat} {r : Option FieldType} {hh : List (Nat × Nat × Nat × Nat)} (h1 : Cond.methodLink own idx y ∈ lw_all) (h2 : Cond.static y ∈ lw_all) (h3 : Cond.initialized y.cls ∈ lw_all) (h4 : Cond.codeWith y b L r hh ∈ lw_all) : GoodIn lw_all (va_wsS own idx y (wsW_ y b L r hh)) := by
  refine lw_app ?_ (lw_methW h4)
  intro w hw
  simp only [List.mem_cons, List.not_mem_nil, or_false] at hw
  rcases hw with e | e | e
  · rw [e]; exact h1
  · rw [e]; exact h2
  · rw [e]; exact h3
/-- a word by its place in its run of the tables -/
theorem lw_at {r : List Cond} (hr : ∀ w ∈ r, w ∈ lw_tbl) {w : Cond} (i : Nat) (h : r[i]? = some w) : w ∈ lw_tbl := hr w (List.mem_of_getElem? h)
theorem lw_g {w : Cond} (h : w ∈ lw_tbl) (g : goodWord w = true) : w ∈ lw_all := List.mem_filter.mpr ⟨h, g⟩
theorem lw_ms : ∀ w ∈ k2_sels lw_privs, w ∈ lw_tbl := fun w h => show w ∈ k2_sels lw_privs ++ tables_1 from List.mem_append_left _ h
theorem lw_m1 : ∀ w ∈ tables_1_1, w ∈ lw_tbl := fun w h => show w ∈ k2_sels lw_privs ++ tables_1 from List.mem_append_right (k2_sels lw_privs) (show w ∈ tables_1 from List.mem_append_left _ h)
theorem lw_m2 : ∀ w ∈ tables_1_2, w ∈ lw_tbl := fun w h => show w ∈ k2_sels lw_privs ++ tables_1 from List.mem_append_right (k2_sels lw_privs) (show w ∈ tables_1 from List.mem_append_right _ (List.mem_append_left _ h))
theorem lw_m3 : ∀ w ∈ tables_1_3, w ∈ lw_tbl := fun w h => show w ∈ k2_sels lw_privs ++ tables_1 from List.mem_append_right (k2_sels lw_privs) (show w ∈ tables_1 from List.mem_append_right _ (List.mem_append_right _ (List.mem_append_left _ h)))
theorem lw_m4 : ∀ w ∈ tables_1_4, w ∈ lw_tbl := fun w h => show w ∈ k2_sels lw_privs ++ tables_1 from List.mem_append_right (k2_sels lw_privs) (show w ∈ tables_1 from List.mem_append_right _ (List.mem_append_right _ (List.mem_append_right _ (List.mem_append_left _ h))))
theorem lw_m5 : ∀ w ∈ tables_1_5, w ∈ lw_tbl := fun w h => show w ∈ k2_sels lw_privs ++ tables_1 from List.mem_append_right (k2_sels lw_privs) (show w ∈ tables_1 from List.mem_append_right _ (List.mem_append_right _ (List.mem_append_right _ (List.mem_append_right _ (List.mem_append_left _ h)))))
theorem lw_m6 : ∀ w ∈ tables_1_6, w ∈ lw_tbl := fun w h => show w ∈ k2_sels lw_privs ++ tables_1 from List.mem_append_right (k2_sels lw_privs) (show w ∈ tables_1 from List.mem_append_right _ (List.mem_append_right _ (List.mem_append_right _ (List.mem_append_right _ (List.mem_append_right _ (List.mem_append_left _ h))))))
theorem lw_m7 : ∀ w ∈ tables_1_7, w ∈ lw_tbl := fun w h => show w ∈ k2_sels lw_privs ++ tables_1 from List.mem_append_right (k2_sels lw_privs) (show w ∈ tables_1 from List.mem_append_right _ (List.mem_append_right _ (List.mem_append_right _ (List.mem_append_right _ (List.mem_append_right _ (List.mem_append_right _ (List.mem_append_left _ h)))))))
theorem lw_m8 : ∀ w ∈ tables_1_8, w ∈ lw_tbl := fun w h => show w ∈ k2_sels lw_privs ++ tables_1 from List.mem_append_right (k2_sels lw_privs) (show w ∈ tables_1 from List.mem_append_right _ (List.mem_append_right _ (List.mem_append_right _ (List.mem_append_right _ (List.mem_append_right _ (List.mem_append_right _ (List.mem_append_right _ h)))))))
theorem qs0 : (Cond.selects "PuzzleWed" ⟨"PuzzleWed", "push", "(I)V"⟩ ⟨"PuzzleWed", "push", "(I)V"⟩) ∈ lw_all := lw_g (lw_at lw_ms 0 rfl) rfl
theorem qs1 : (Cond.selects "PuzzleWed$Reader" ⟨"PuzzleWed$Reader", "isGood", "()Z"⟩ ⟨"PuzzleWed$Reader", "isGood", "()Z"⟩) ∈ lw_all := lw_g (lw_at lw_ms 1 rfl) rfl
theorem qs2 : (Cond.selects "PuzzleWed$Reader" ⟨"PuzzleWed$Reader", "clause", "()V"⟩ ⟨"PuzzleWed$Reader", "clause", "()V"⟩) ∈ lw_all := lw_g (lw_at lw_ms 2 rfl) rfl
theorem qs3 : (Cond.selects "PuzzleWed$Reader" ⟨"PuzzleWed$Reader", "here", "()I"⟩ ⟨"PuzzleWed$Reader", "here", "()I"⟩) ∈ lw_all := lw_g (lw_at lw_ms 3 rfl) rfl
theorem qs4 : (Cond.selects "PuzzleWed$Reader" ⟨"PuzzleWed$Reader", "bad", "(II)V"⟩ ⟨"PuzzleWed$Reader", "bad", "(II)V"⟩) ∈ lw_all := lw_g (lw_at lw_ms 4 rfl) rfl
theorem qs5 : (Cond.selects "PuzzleWed$Reader" ⟨"PuzzleWed$Reader", "sum", "()LPuzzleWed$Sum;"⟩ ⟨"PuzzleWed$Reader", "sum", "()LPuzzleWed$Sum;"⟩) ∈ lw_all := lw_g (lw_at lw_ms 5 rfl) rfl
theorem qs6 : (Cond.selects "PuzzleWed$Reader" ⟨"PuzzleWed$Reader", "product", "()LPuzzleWed$Sum;"⟩ ⟨"PuzzleWed$Reader", "product", "()LPuzzleWed$Sum;"⟩) ∈ lw_all := lw_g (lw_at lw_ms 6 rfl) rfl
theorem qs7 : (Cond.selects "PuzzleWed$Reader" ⟨"PuzzleWed$Reader", "factor", "()LPuzzleWed$Sum;"⟩ ⟨"PuzzleWed$Reader", "factor", "()LPuzzleWed$Sum;"⟩) ∈ lw_all := lw_g (lw_at lw_ms 7 rfl) rfl
theorem qs8 : (Cond.selects "PuzzleWed$Reader" ⟨"PuzzleWed$Reader", "opens", "()V"⟩ ⟨"PuzzleWed$Reader", "opens", "()V"⟩) ∈ lw_all := lw_g (lw_at lw_ms 8 rfl) rfl
theorem qs9 : (Cond.selects "PuzzleWed$Reader" ⟨"PuzzleWed$Reader", "must", "(I)V"⟩ ⟨"PuzzleWed$Reader", "must", "(I)V"⟩) ∈ lw_all := lw_g (lw_at lw_ms 9 rfl) rfl
theorem qs10 : (Cond.selects "PuzzleWed$Reader" ⟨"PuzzleWed$Reader", "seesDigit", "()Z"⟩ ⟨"PuzzleWed$Reader", "seesDigit", "()Z"⟩) ∈ lw_all := lw_g (lw_at lw_ms 10 rfl) rfl
theorem qs11 : (Cond.selects "PuzzleWed$Reader" ⟨"PuzzleWed$Reader", "number", "()I"⟩ ⟨"PuzzleWed$Reader", "number", "()I"⟩) ∈ lw_all := lw_g (lw_at lw_ms 11 rfl) rfl
theorem qs12 : (Cond.selects "PuzzleWed$Reader" ⟨"PuzzleWed$Reader", "condition", "()LPuzzleWed$Condition;"⟩ ⟨"PuzzleWed$Reader", "condition", "()LPuzzleWed$Condition;"⟩) ∈ lw_all := lw_g (lw_at lw_ms 12 rfl) rfl
theorem qs13 : (Cond.selects "PuzzleWed$Reader" ⟨"PuzzleWed$Reader", "pieces", "()LPuzzleWed$Condition;"⟩ ⟨"PuzzleWed$Reader", "pieces", "()LPuzzleWed$Condition;"⟩) ∈ lw_all := lw_g (lw_at lw_ms 13 rfl) rfl
theorem qs14 : (Cond.selects "PuzzleWed$Reader" ⟨"PuzzleWed$Reader", "piece", "()LPuzzleWed$Condition;"⟩ ⟨"PuzzleWed$Reader", "piece", "()LPuzzleWed$Condition;"⟩) ∈ lw_all := lw_g (lw_at lw_ms 14 rfl) rfl
theorem qs15 : (Cond.selects "PuzzleWed" ⟨"PuzzleWed", "isPerson", "(I)Z"⟩ ⟨"PuzzleWed", "isPerson", "(I)Z"⟩) ∈ lw_all := lw_g (lw_at lw_ms 15 rfl) rfl
theorem qs16 : (Cond.selects "PuzzleWed$Land" ⟨"PuzzleWed$Land", "dayGoes", "()V"⟩ ⟨"PuzzleWed$Land", "dayGoes", "()V"⟩) ∈ lw_all := lw_g (lw_at lw_ms 16 rfl) rfl
theorem qs17 : (Cond.selects "PuzzleWed$Land" ⟨"PuzzleWed$Land", "travels", "(LPuzzleWed$Person;)V"⟩ ⟨"PuzzleWed$Land", "travels", "(LPuzzleWed$Person;)V"⟩) ∈ lw_all := lw_g (lw_at lw_ms 17 rfl) rfl
theorem qs18 : (Cond.selects "PuzzleWed$Land" ⟨"PuzzleWed$Land", "meets", "(II)V"⟩ ⟨"PuzzleWed$Land", "meets", "(II)V"⟩) ∈ lw_all := lw_g (lw_at lw_ms 18 rfl) rfl
theorem qs19 : (Cond.selects "PuzzleWed$Land" ⟨"PuzzleWed$Land", "tries", "(II)V"⟩ ⟨"PuzzleWed$Land", "tries", "(II)V"⟩) ∈ lw_all := lw_g (lw_at lw_ms 19 rfl) rfl
theorem qs20 : (Cond.selects "PuzzleWed$Land" ⟨"PuzzleWed$Land", "isFirst", "(II)Z"⟩ ⟨"PuzzleWed$Land", "isFirst", "(II)Z"⟩) ∈ lw_all := lw_g (lw_at lw_ms 20 rfl) rfl
theorem qs21 : (Cond.selects "PuzzleWed$Land" ⟨"PuzzleWed$Land", "creaks", "(II)V"⟩ ⟨"PuzzleWed$Land", "creaks", "(II)V"⟩) ∈ lw_all := lw_g (lw_at lw_ms 21 rfl) rfl
theorem qs22 : (Cond.selects "PuzzleWed$Land" ⟨"PuzzleWed$Land", "draw", "()I"⟩ ⟨"PuzzleWed$Land", "draw", "()I"⟩) ∈ lw_all := lw_g (lw_at lw_ms 22 rfl) rfl
theorem qs23 : (Cond.selects "PuzzleWed" ⟨"PuzzleWed", "fitting", "(I)I"⟩ ⟨"PuzzleWed", "fitting", "(I)I"⟩) ∈ lw_all := lw_g (lw_at lw_ms 23 rfl) rfl
theorem qs24 : (Cond.selects "PuzzleWed" ⟨"PuzzleWed", "areFit", "(II)Z"⟩ ⟨"PuzzleWed", "areFit", "(II)Z"⟩) ∈ lw_all := lw_g (lw_at lw_ms 24 rfl) rfl
theorem qs25 : (Cond.selects "PuzzleWed" ⟨"PuzzleWed", "isAsker", "(I)Z"⟩ ⟨"PuzzleWed", "isAsker", "(I)Z"⟩) ∈ lw_all := lw_g (lw_at lw_ms 25 rfl) rfl
theorem qs26 : (Cond.selects "PuzzleWed" ⟨"PuzzleWed", "laysBest", "()I"⟩ ⟨"PuzzleWed", "laysBest", "()I"⟩) ∈ lw_all := lw_g (lw_at lw_ms 26 rfl) rfl
theorem qs27 : (Cond.selects "PuzzleWed" ⟨"PuzzleWed", "gainBy", "(III)I"⟩ ⟨"PuzzleWed", "gainBy", "(III)I"⟩) ∈ lw_all := lw_g (lw_at lw_ms 27 rfl) rfl
theorem qs28 : (Cond.selects "PuzzleWed" ⟨"PuzzleWed", "laysStable", "()V"⟩ ⟨"PuzzleWed", "laysStable", "()V"⟩) ∈ lw_all := lw_g (lw_at lw_ms 28 rfl) rfl
theorem qs29 : (Cond.selects "PuzzleWed" ⟨"PuzzleWed", "nextFor", "(I)I"⟩ ⟨"PuzzleWed", "nextFor", "(I)I"⟩) ∈ lw_all := lw_g (lw_at lw_ms 29 rfl) rfl
theorem qs30 : (Cond.selects "PuzzleWed" ⟨"PuzzleWed", "likesMore", "(III)Z"⟩ ⟨"PuzzleWed", "likesMore", "(III)Z"⟩) ∈ lw_all := lw_g (lw_at lw_ms 30 rfl) rfl
theorem qs31 : (Cond.selects "PuzzleWed" ⟨"PuzzleWed", "wouldLeave", "(II)Z"⟩ ⟨"PuzzleWed", "wouldLeave", "(II)Z"⟩) ∈ lw_all := lw_g (lw_at lw_ms 31 rfl) rfl
theorem qs32 : (Cond.selects "PuzzleWed" ⟨"PuzzleWed", "isSearch", "(I)Z"⟩ ⟨"PuzzleWed", "isSearch", "(I)Z"⟩) ∈ lw_all := lw_g (lw_at lw_ms 32 rfl) rfl
theorem qs33 : (Cond.selects "PuzzleWed" ⟨"PuzzleWed", "searches", "(IIIII)V"⟩ ⟨"PuzzleWed", "searches", "(IIIII)V"⟩) ∈ lw_all := lw_g (lw_at lw_ms 33 rfl) rfl
theorem qs34 : (Cond.selects "PuzzleWed" ⟨"PuzzleWed", "laysWorks", "(LPuzzleWed$Piece;LPuzzleWed$Piece;LPuzzleWed$Piece;II)V"⟩ ⟨"PuzzleWed", "laysWorks", "(LPuzzleWed$Piece;LPuzzleWed$Piece;LPuzzleWed$Piece;II)V"⟩) ∈ lw_all := lw_g (lw_at lw_ms 34 rfl) rfl
theorem qs35 : (Cond.selects "PuzzleWed" ⟨"PuzzleWed", "workBy", "(LPuzzleWed$Piece;LPuzzleWed$Piece;LPuzzleWed$Piece;IIII)I"⟩ ⟨"PuzzleWed", "workBy", "(LPuzzleWed$Piece;LPuzzleWed$Piece;LPuzzleWed$Piece;IIII)I"⟩) ∈ lw_all := lw_g (lw_at lw_ms 35 rfl) rfl
theorem qs36 : (Cond.selects "PuzzleWed" ⟨"PuzzleWed", "steams", "(LPuzzleWed$Piece;II)V"⟩ ⟨"PuzzleWed", "steams", "(LPuzzleWed$Piece;II)V"⟩) ∈ lw_all := lw_g (lw_at lw_ms 36 rfl) rfl
theorem qs37 : (Cond.selects "PuzzleWed" ⟨"PuzzleWed", "fitsAll", "(II)Z"⟩ ⟨"PuzzleWed", "fitsAll", "(II)Z"⟩) ∈ lw_all := lw_g (lw_at lw_ms 37 rfl) rfl
theorem qs38 : (Cond.selects "PuzzleWed" ⟨"PuzzleWed", "isMade", "(ILPuzzleWed$Piece;LPuzzleWed$Piece;)Z"⟩ ⟨"PuzzleWed", "isMade", "(ILPuzzleWed$Piece;LPuzzleWed$Piece;)Z"⟩) ∈ lw_all := lw_g (lw_at lw_ms 38 rfl) rfl
theorem qs39 : (Cond.selects "PuzzleWed" ⟨"PuzzleWed", "inTown", "(I)I"⟩ ⟨"PuzzleWed", "inTown", "(I)I"⟩) ∈ lw_all := lw_g (lw_at lw_ms 39 rfl) rfl
theorem qs40 : (Cond.selects "PuzzleWed" ⟨"PuzzleWed", "told", "(Z)I"⟩ ⟨"PuzzleWed", "told", "(Z)I"⟩) ∈ lw_all := lw_g (lw_at lw_ms 40 rfl) rfl
theorem qs41 : (Cond.selects "PuzzleWedModel" ⟨"PuzzleWedModel", "isPerson", "(I)Z"⟩ ⟨"PuzzleWedModel", "isPerson", "(I)Z"⟩) ∈ lw_all := lw_g (lw_at lw_ms 41 rfl) rfl
theorem qs42 : (Cond.selects "PuzzleWedModel" ⟨"PuzzleWedModel", "lives", "(I)Z"⟩ ⟨"PuzzleWedModel", "lives", "(I)Z"⟩) ∈ lw_all := lw_g (lw_at lw_ms 42 rfl) rfl
theorem qs43 : (Cond.selects "PuzzleWedModel" ⟨"PuzzleWedModel", "parts", "(I)V"⟩ ⟨"PuzzleWedModel", "parts", "(I)V"⟩) ∈ lw_all := lw_g (lw_at lw_ms 43 rfl) rfl
theorem qs44 : (Cond.selects "PuzzleWedModel" ⟨"PuzzleWedModel", "isFree", "(I)Z"⟩ ⟨"PuzzleWedModel", "isFree", "(I)Z"⟩) ∈ lw_all := lw_g (lw_at lw_ms 44 rfl) rfl
theorem qs45 : (Cond.selects "PuzzleWedModel" ⟨"PuzzleWedModel", "wedsTwo", "(II)V"⟩ ⟨"PuzzleWedModel", "wedsTwo", "(II)V"⟩) ∈ lw_all := lw_g (lw_at lw_ms 45 rfl) rfl
theorem qs46 : (Cond.selects "PuzzleWedModel" ⟨"PuzzleWedModel", "types", "(I)V"⟩ ⟨"PuzzleWedModel", "types", "(I)V"⟩) ∈ lw_all := lw_g (lw_at lw_ms 46 rfl) rfl
theorem qs47 : (Cond.selects "PuzzleWedModel" ⟨"PuzzleWedModel", "readsClause", "()Z"⟩ ⟨"PuzzleWedModel", "readsClause", "()Z"⟩) ∈ lw_all := lw_g (lw_at lw_ms 47 rfl) rfl
theorem qs48 : (Cond.selects "PuzzleWedModel" ⟨"PuzzleWedModel", "here", "()I"⟩ ⟨"PuzzleWedModel", "here", "()I"⟩) ∈ lw_all := lw_g (lw_at lw_ms 48 rfl) rfl
theorem qs49 : (Cond.selects "PuzzleWedModel" ⟨"PuzzleWedModel", "wrongAt", "(II)Z"⟩ ⟨"PuzzleWedModel", "wrongAt", "(II)Z"⟩) ∈ lw_all := lw_g (lw_at lw_ms 49 rfl) rfl
theorem qs50 : (Cond.selects "PuzzleWedModel" ⟨"PuzzleWedModel", "readsSum", "()Z"⟩ ⟨"PuzzleWedModel", "readsSum", "()Z"⟩) ∈ lw_all := lw_g (lw_at lw_ms 50 rfl) rfl
theorem qs51 : (Cond.selects "PuzzleWedModel" ⟨"PuzzleWedModel", "readsFactor", "()Z"⟩ ⟨"PuzzleWedModel", "readsFactor", "()Z"⟩) ∈ lw_all := lw_g (lw_at lw_ms 51 rfl) rfl
theorem qs52 : (Cond.selects "PuzzleWedModel" ⟨"PuzzleWedModel", "opens", "(I)Z"⟩ ⟨"PuzzleWedModel", "opens", "(I)Z"⟩) ∈ lw_all := lw_g (lw_at lw_ms 52 rfl) rfl
theorem qs53 : (Cond.selects "PuzzleWedModel" ⟨"PuzzleWedModel", "isDigit", "()Z"⟩ ⟨"PuzzleWedModel", "isDigit", "()Z"⟩) ∈ lw_all := lw_g (lw_at lw_ms 53 rfl) rfl
theorem qs54 : (Cond.selects "PuzzleWedModel" ⟨"PuzzleWedModel", "readsNumber", "()Z"⟩ ⟨"PuzzleWedModel", "readsNumber", "()Z"⟩) ∈ lw_all := lw_g (lw_at lw_ms 54 rfl) rfl
theorem qs55 : (Cond.selects "PuzzleWedModel" ⟨"PuzzleWedModel", "notes", "(II)V"⟩ ⟨"PuzzleWedModel", "notes", "(II)V"⟩) ∈ lw_all := lw_g (lw_at lw_ms 55 rfl) rfl
theorem qs56 : (Cond.selects "PuzzleWedModel" ⟨"PuzzleWedModel", "closesSums", "(Z)V"⟩ ⟨"PuzzleWedModel", "closesSums", "(Z)V"⟩) ∈ lw_all := lw_g (lw_at lw_ms 56 rfl) rfl
theorem qs57 : (Cond.selects "PuzzleWedModel" ⟨"PuzzleWedModel", "waitTop", "()I"⟩ ⟨"PuzzleWedModel", "waitTop", "()I"⟩) ∈ lw_all := lw_g (lw_at lw_ms 57 rfl) rfl
theorem qs58 : (Cond.selects "PuzzleWedModel" ⟨"PuzzleWedModel", "hasOpenSum", "(I)Z"⟩ ⟨"PuzzleWedModel", "hasOpenSum", "(I)Z"⟩) ∈ lw_all := lw_g (lw_at lw_ms 58 rfl) rfl
theorem qs59 : (Cond.selects "PuzzleWedModel" ⟨"PuzzleWedModel", "readsCondition", "()Z"⟩ ⟨"PuzzleWedModel", "readsCondition", "()Z"⟩) ∈ lw_all := lw_g (lw_at lw_ms 59 rfl) rfl
theorem qs60 : (Cond.selects "PuzzleWedModel" ⟨"PuzzleWedModel", "readsCompared", "()Z"⟩ ⟨"PuzzleWedModel", "readsCompared", "()Z"⟩) ∈ lw_all := lw_g (lw_at lw_ms 60 rfl) rfl
theorem qs61 : (Cond.selects "PuzzleWedModel" ⟨"PuzzleWedModel", "endsPiece", "()V"⟩ ⟨"PuzzleWedModel", "endsPiece", "()V"⟩) ∈ lw_all := lw_g (lw_at lw_ms 61 rfl) rfl
theorem qs62 : (Cond.selects "PuzzleWedModel" ⟨"PuzzleWedModel", "lands", "(Z)V"⟩ ⟨"PuzzleWedModel", "lands", "(Z)V"⟩) ∈ lw_all := lw_g (lw_at lw_ms 62 rfl) rfl
theorem qs63 : (Cond.selects "PuzzleWedModel" ⟨"PuzzleWedModel", "jumps", "(I)V"⟩ ⟨"PuzzleWedModel", "jumps", "(I)V"⟩) ∈ lw_all := lw_g (lw_at lw_ms 63 rfl) rfl
theorem qs64 : (Cond.selects "PuzzleWedModel" ⟨"PuzzleWedModel", "takes", "(I)Z"⟩ ⟨"PuzzleWedModel", "takes", "(I)Z"⟩) ∈ lw_all := lw_g (lw_at lw_ms 64 rfl) rfl
theorem qs65 : (Cond.selects "PuzzleWedModel" ⟨"PuzzleWedModel", "readsHeight", "()Z"⟩ ⟨"PuzzleWedModel", "readsHeight", "()Z"⟩) ∈ lw_all := lw_g (lw_at lw_ms 65 rfl) rfl
theorem qs66 : (Cond.selects "PuzzleWedModel" ⟨"PuzzleWedModel", "readsStop", "()Z"⟩ ⟨"PuzzleWedModel", "readsStop", "()Z"⟩) ∈ lw_all := lw_g (lw_at lw_ms 66 rfl) rfl
theorem qs67 : (Cond.selects "PuzzleWedModel" ⟨"PuzzleWedModel", "daysGo", "(I)V"⟩ ⟨"PuzzleWedModel", "daysGo", "(I)V"⟩) ∈ lw_all := lw_g (lw_at lw_ms 67 rfl) rfl
theorem qs68 : (Cond.selects "PuzzleWedModel" ⟨"PuzzleWedModel", "travels", "(I)V"⟩ ⟨"PuzzleWedModel", "travels", "(I)V"⟩) ∈ lw_all := lw_g (lw_at lw_ms 68 rfl) rfl
theorem qs69 : (Cond.selects "PuzzleWedModel" ⟨"PuzzleWedModel", "triesIn", "(II)V"⟩ ⟨"PuzzleWedModel", "triesIn", "(II)V"⟩) ∈ lw_all := lw_g (lw_at lw_ms 69 rfl) rfl
theorem qs70 : (Cond.selects "PuzzleWedModel" ⟨"PuzzleWedModel", "haveTried", "(II)V"⟩ ⟨"PuzzleWedModel", "haveTried", "(II)V"⟩) ∈ lw_all := lw_g (lw_at lw_ms 70 rfl) rfl
theorem qs71 : (Cond.selects "PuzzleWedModel" ⟨"PuzzleWedModel", "fit", "(II)Z"⟩ ⟨"PuzzleWedModel", "fit", "(II)Z"⟩) ∈ lw_all := lw_g (lw_at lw_ms 71 rfl) rfl
theorem qs72 : (Cond.selects "PuzzleWedModel" ⟨"PuzzleWedModel", "slackBy", "(II)I"⟩ ⟨"PuzzleWedModel", "slackBy", "(II)I"⟩) ∈ lw_all := lw_g (lw_at lw_ms 72 rfl) rfl
theorem qs73 : (Cond.selects "PuzzleWedModel" ⟨"PuzzleWedModel", "slackOf", "(II)I"⟩ ⟨"PuzzleWedModel", "slackOf", "(II)I"⟩) ∈ lw_all := lw_g (lw_at lw_ms 73 rfl) rfl
theorem qs74 : (Cond.selects "PuzzleWedModel" ⟨"PuzzleWedModel", "heightOf", "(II)I"⟩ ⟨"PuzzleWedModel", "heightOf", "(II)I"⟩) ∈ lw_all := lw_g (lw_at lw_ms 74 rfl) rfl
theorem qs75 : (Cond.selects "PuzzleWedModel" ⟨"PuzzleWedModel", "allowed", "(II)I"⟩ ⟨"PuzzleWedModel", "allowed", "(II)I"⟩) ∈ lw_all := lw_g (lw_at lw_ms 75 rfl) rfl
theorem qs76 : (Cond.selects "PuzzleWedModel" ⟨"PuzzleWedModel", "feels", "(III)V"⟩ ⟨"PuzzleWedModel", "feels", "(III)V"⟩) ∈ lw_all := lw_g (lw_at lw_ms 76 rfl) rfl
theorem qs77 : (Cond.selects "PuzzleWedModel" ⟨"PuzzleWedModel", "byLaw", "(II)I"⟩ ⟨"PuzzleWedModel", "byLaw", "(II)I"⟩) ∈ lw_all := lw_g (lw_at lw_ms 77 rfl) rfl
theorem qs78 : (Cond.selects "PuzzleWedModel" ⟨"PuzzleWedModel", "comesTo", "(II)I"⟩ ⟨"PuzzleWedModel", "comesTo", "(II)I"⟩) ∈ lw_all := lw_g (lw_at lw_ms 78 rfl) rfl
theorem qs79 : (Cond.selects "PuzzleWedModel" ⟨"PuzzleWedModel", "wearsBy", "(II)I"⟩ ⟨"PuzzleWedModel", "wearsBy", "(II)I"⟩) ∈ lw_all := lw_g (lw_at lw_ms 79 rfl) rfl
theorem qs80 : (Cond.selects "PuzzleWedModel" ⟨"PuzzleWedModel", "wearsAll", "(II)V"⟩ ⟨"PuzzleWedModel", "wearsAll", "(II)V"⟩) ∈ lw_all := lw_g (lw_at lw_ms 80 rfl) rfl
theorem qs81 : (Cond.selects "PuzzleWedModel" ⟨"PuzzleWedModel", "creak", "(I)V"⟩ ⟨"PuzzleWedModel", "creak", "(I)V"⟩) ∈ lw_all := lw_g (lw_at lw_ms 81 rfl) rfl
theorem qs82 : (Cond.selects "PuzzleWedModel" ⟨"PuzzleWedModel", "draws", "()I"⟩ ⟨"PuzzleWedModel", "draws", "()I"⟩) ∈ lw_all := lw_g (lw_at lw_ms 82 rfl) rfl
theorem qs83 : (Cond.selects "PuzzleWedModel" ⟨"PuzzleWedModel", "wedTwos", "()I"⟩ ⟨"PuzzleWedModel", "wedTwos", "()I"⟩) ∈ lw_all := lw_g (lw_at lw_ms 83 rfl) rfl
theorem qs84 : (Cond.selects "PuzzleWedModel" ⟨"PuzzleWedModel", "fitting", "(I)I"⟩ ⟨"PuzzleWedModel", "fitting", "(I)I"⟩) ∈ lw_all := lw_g (lw_at lw_ms 84 rfl) rfl
theorem qs85 : (Cond.selects "PuzzleWedModel" ⟨"PuzzleWedModel", "likes", "(II)I"⟩ ⟨"PuzzleWedModel", "likes", "(II)I"⟩) ∈ lw_all := lw_g (lw_at lw_ms 85 rfl) rfl
theorem qs86 : (Cond.selects "PuzzleWedModel" ⟨"PuzzleWedModel", "laysFits", "()V"⟩ ⟨"PuzzleWedModel", "laysFits", "()V"⟩) ∈ lw_all := lw_g (lw_at lw_ms 86 rfl) rfl
theorem qs87 : (Cond.selects "PuzzleWedModel" ⟨"PuzzleWedModel", "isOne", "(II)Z"⟩ ⟨"PuzzleWedModel", "isOne", "(II)Z"⟩) ∈ lw_all := lw_g (lw_at lw_ms 87 rfl) rfl
theorem qs88 : (Cond.selects "PuzzleWedModel" ⟨"PuzzleWedModel", "laysMost", "()V"⟩ ⟨"PuzzleWedModel", "laysMost", "()V"⟩) ∈ lw_all := lw_g (lw_at lw_ms 88 rfl) rfl
theorem qs89 : (Cond.selects "PuzzleWedModel" ⟨"PuzzleWedModel", "mayGet", "(III)Z"⟩ ⟨"PuzzleWedModel", "mayGet", "(III)Z"⟩) ∈ lw_all := lw_g (lw_at lw_ms 89 rfl) rfl
theorem qs90 : (Cond.selects "PuzzleWedModel" ⟨"PuzzleWedModel", "getsBy", "(I)I"⟩ ⟨"PuzzleWedModel", "getsBy", "(I)I"⟩) ∈ lw_all := lw_g (lw_at lw_ms 90 rfl) rfl
theorem qs91 : (Cond.selects "PuzzleWedModel" ⟨"PuzzleWedModel", "laysStable", "()V"⟩ ⟨"PuzzleWedModel", "laysStable", "()V"⟩) ∈ lw_all := lw_g (lw_at lw_ms 91 rfl) rfl
theorem qs92 : (Cond.selects "PuzzleWedModel" ⟨"PuzzleWedModel", "nextAsked", "(I)I"⟩ ⟨"PuzzleWedModel", "nextAsked", "(I)I"⟩) ∈ lw_all := lw_g (lw_at lw_ms 92 rfl) rfl
theorem qs93 : (Cond.selects "PuzzleWedModel" ⟨"PuzzleWedModel", "keeps", "(II)Z"⟩ ⟨"PuzzleWedModel", "keeps", "(II)Z"⟩) ∈ lw_all := lw_g (lw_at lw_ms 93 rfl) rfl
theorem qs94 : (Cond.selects "PuzzleWedModel" ⟨"PuzzleWedModel", "likesWed", "(I)I"⟩ ⟨"PuzzleWedModel", "likesWed", "(I)I"⟩) ∈ lw_all := lw_g (lw_at lw_ms 94 rfl) rfl
theorem qs95 : (Cond.selects "PuzzleWedModel" ⟨"PuzzleWedModel", "areBounds", "(I)Z"⟩ ⟨"PuzzleWedModel", "areBounds", "(I)Z"⟩) ∈ lw_all := lw_g (lw_at lw_ms 95 rfl) rfl
theorem qs96 : (Cond.selects "PuzzleWedModel" ⟨"PuzzleWedModel", "readsRow", "(II)Z"⟩ ⟨"PuzzleWedModel", "readsRow", "(II)Z"⟩) ∈ lw_all := lw_g (lw_at lw_ms 96 rfl) rfl
theorem qs97 : (Cond.selects "PuzzleWedModel" ⟨"PuzzleWedModel", "sumBy", "(I)I"⟩ ⟨"PuzzleWedModel", "sumBy", "(I)I"⟩) ∈ lw_all := lw_g (lw_at lw_ms 97 rfl) rfl
theorem qs98 : (Cond.selects "PuzzleWedModel" ⟨"PuzzleWedModel", "laysWork", "(I)V"⟩ ⟨"PuzzleWedModel", "laysWork", "(I)V"⟩) ∈ lw_all := lw_g (lw_at lw_ms 98 rfl) rfl
theorem qs99 : (Cond.selects "PuzzleWedModel" ⟨"PuzzleWedModel", "workBy", "(IIII)I"⟩ ⟨"PuzzleWedModel", "workBy", "(IIII)I"⟩) ∈ lw_all := lw_g (lw_at lw_ms 99 rfl) rfl
theorem qs100 : (Cond.selects "PuzzleWedModel" ⟨"PuzzleWedModel", "workAt", "(III)I"⟩ ⟨"PuzzleWedModel", "workAt", "(III)I"⟩) ∈ lw_all := lw_g (lw_at lw_ms 100 rfl) rfl
theorem qs101 : (Cond.selects "PuzzleWedModel" ⟨"PuzzleWedModel", "laysSanded", "(II)V"⟩ ⟨"PuzzleWedModel", "laysSanded", "(II)V"⟩) ∈ lw_all := lw_g (lw_at lw_ms 101 rfl) rfl
theorem qs102 : (Cond.selects "PuzzleWedModel" ⟨"PuzzleWedModel", "slackOfSanded", "(I)I"⟩ ⟨"PuzzleWedModel", "slackOfSanded", "(I)I"⟩) ∈ lw_all := lw_g (lw_at lw_ms 102 rfl) rfl
theorem qs103 : (Cond.selects "PuzzleWedModel" ⟨"PuzzleWedModel", "slackSteamed", "(IIII)I"⟩ ⟨"PuzzleWedModel", "slackSteamed", "(IIII)I"⟩) ∈ lw_all := lw_g (lw_at lw_ms 103 rfl) rfl
theorem qs104 : (Cond.selects "PuzzleWedModel" ⟨"PuzzleWedModel", "makesAll", "(II)Z"⟩ ⟨"PuzzleWedModel", "makesAll", "(II)Z"⟩) ∈ lw_all := lw_g (lw_at lw_ms 104 rfl) rfl
theorem qs105 : (Cond.selects "PuzzleWedModel" ⟨"PuzzleWedModel", "makes", "(III)Z"⟩ ⟨"PuzzleWedModel", "makes", "(III)Z"⟩) ∈ lw_all := lw_g (lw_at lw_ms 105 rfl) rfl
theorem qs106 : (Cond.selects "PuzzleWedModel" ⟨"PuzzleWedModel", "areSame", "(II)Z"⟩ ⟨"PuzzleWedModel", "areSame", "(II)Z"⟩) ∈ lw_all := lw_g (lw_at lw_ms 106 rfl) rfl
