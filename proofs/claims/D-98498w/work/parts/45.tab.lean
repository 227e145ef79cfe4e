set_option maxRecDepth 100000
def R_law : String := "PuzzleWedLaw"
theorem go_0 : GoodCl 0 := ⟨by decide, rfl, in_X0, tyX0_ok, nmX0⟩
theorem go_2 : GoodCl 2 := ⟨by decide, rfl, in_X2, tyX2_ok, nmX2⟩
theorem go_3 : GoodCl 3 := ⟨by decide, rfl, in_X3, tyX3_ok, nmX3⟩
theorem go_4 : GoodCl 4 := ⟨by decide, rfl, in_X4, tyX4_ok, nmX4⟩
theorem go_5 : GoodCl 5 := ⟨by decide, rfl, in_X5, tyX5_ok, nmX5⟩
theorem go_6 : GoodCl 6 := ⟨by decide, rfl, in_X6, tyX6_ok, nmX6⟩
theorem go_7 : GoodCl 7 := ⟨by decide, rfl, in_X7, tyX7_ok, nmX7⟩
theorem go_8 : GoodCl 8 := ⟨by decide, rfl, in_X8, tyX8_ok, nmX8⟩
theorem go_10 : GoodCl 10 := ⟨by decide, rfl, in_X10, tyX10_ok, nmX10⟩
theorem go_11 : GoodCl 11 := ⟨by decide, rfl, in_X11, tyX11_ok, nmX11⟩
theorem go_12 : GoodCl 12 := ⟨by decide, rfl, in_X12, tyX12_ok, nmX12⟩
theorem go_14 : GoodCl 14 := ⟨by decide, rfl, in_X14, tyX14_ok, nmX14⟩
theorem go_15 : GoodCl 15 := ⟨by decide, rfl, in_X15, tyX15_ok, nmX15⟩
theorem go_16 : GoodCl 16 := ⟨by decide, rfl, in_X16, tyX16_ok, nmX16⟩
theorem go_18 : GoodCl 18 := ⟨by decide, rfl, fun w h => by
  obtain ⟨k, hk, e⟩ := List.mem_map.mp h
  exact in_X18 w (List.mem_map.mpr ⟨k, List.mem_range.mpr (by have := List.mem_range.mp hk; show k < 8; have h2 : k < 7 := this; omega), e⟩), fun k hk => tyX18_ok k (Nat.lt_succ_of_lt hk), by decide +kernel⟩
theorem go_19 : GoodCl 19 := ⟨by decide, rfl, fun w h => by
  obtain ⟨k, hk, e⟩ := List.mem_map.mp h
  exact in_X19 w (List.mem_map.mpr ⟨k, List.mem_range.mpr (by have := List.mem_range.mp hk; show k < 9; have h2 : k < 8 := this; omega), e⟩), fun k hk => tyX19_ok k (Nat.lt_succ_of_lt hk), by decide +kernel⟩
abbrev m_J0_indexOf : Mth := (yJ0_indexOf, cJ0_indexOf, 2, (some FieldType.int))
theorem ci_J0_indexOf : CodeIn m_J0_indexOf := q503
theorem pf_J0_indexOf : plainFor m_J0_indexOf.1 = true := by decide +kernel
abbrev m_J0_indexOf_2 : Mth := (yJ0_indexOf_2, cJ0_indexOf_2, 3, (some FieldType.int))
theorem ci_J0_indexOf_2 : CodeIn m_J0_indexOf_2 := q507
theorem pf_J0_indexOf_2 : plainFor m_J0_indexOf_2.1 = true := by decide +kernel
abbrev m_J0_isLatin1 : Mth := (yJ0_isLatin1, cJ0_isLatin1, 1, (some FieldType.boolean))
theorem ci_J0_isLatin1 : CodeIn m_J0_isLatin1 := q511
theorem pf_J0_isLatin1 : plainFor m_J0_isLatin1.1 = true := by decide +kernel
abbrev m_J0_length : Mth := (yJ0_length, cJ0_length, 1, (some FieldType.int))
theorem ci_J0_length : CodeIn m_J0_length := q517
theorem pf_J0_length : plainFor m_J0_length.1 = true := by decide +kernel
abbrev m_J0_coder : Mth := (yJ0_coder, cJ0_coder, 1, (some FieldType.byte))
theorem ci_J0_coder : CodeIn m_J0_coder := q521
theorem pf_J0_coder : plainFor m_J0_coder.1 = true := by decide +kernel
abbrev m_J0_checkBoundsBeginEnd : Mth := (yJ0_checkBoundsBeginEnd, cJ0_checkBoundsBeginEnd, 3, none)
theorem ci_J0_checkBoundsBeginEnd : CodeIn m_J0_checkBoundsBeginEnd := q554
abbrev m_J1_indexOf : Mth := (yJ1_indexOf, cJ1_indexOf, 4, (some FieldType.int))
theorem ci_J1_indexOf : CodeIn m_J1_indexOf := q524
theorem pf_J1_indexOf : plainFor m_J1_indexOf.1 = true := by decide +kernel
abbrev m_J1_canEncode : Mth := (yJ1_canEncode, cJ1_canEncode, 1, (some FieldType.boolean))
theorem ci_J1_canEncode : CodeIn m_J1_canEncode := q527
theorem pf_J1_canEncode : plainFor m_J1_canEncode.1 = true := by decide +kernel
abbrev m_J1_indexOfChar : Mth := (yJ1_indexOfChar, cJ1_indexOfChar, 6, (some FieldType.int))
theorem ci_J1_indexOfChar : CodeIn m_J1_indexOfChar := q536
theorem pf_J1_indexOfChar : plainFor m_J1_indexOfChar.1 = true := by decide +kernel
abbrev m_J2_max : Mth := (yJ2_max, cJ2_max, 2, (some FieldType.int))
theorem ci_J2_max : CodeIn m_J2_max := q530
theorem pf_J2_max : plainFor m_J2_max.1 = true := by decide +kernel
abbrev m_J2_min : Mth := (yJ2_min, cJ2_min, 2, (some FieldType.int))
theorem ci_J2_min : CodeIn m_J2_min := q533
theorem pf_J2_min : plainFor m_J2_min.1 = true := by decide +kernel
abbrev m_J2_abs : Mth := (yJ2_abs, cJ2_abs, 1, (some FieldType.int))
theorem ci_J2_abs : CodeIn m_J2_abs := q857
theorem pf_J2_abs : plainFor m_J2_abs.1 = true := by decide +kernel
abbrev m_J3_indexOf : Mth := (yJ3_indexOf, cJ3_indexOf, 4, (some FieldType.int))
theorem ci_J3_indexOf : CodeIn m_J3_indexOf := q539
abbrev m_J3_indexOfChar : Mth := (yJ3_indexOfChar, cJ3_indexOfChar, 4, (some FieldType.int))
theorem ci_J3_indexOfChar : CodeIn m_J3_indexOfChar := q545
abbrev m_J3_checkBoundsBeginEnd : Mth := (yJ3_checkBoundsBeginEnd, cJ3_checkBoundsBeginEnd, 3, none)
theorem ci_J3_checkBoundsBeginEnd : CodeIn m_J3_checkBoundsBeginEnd := q548
abbrev m_J3_length : Mth := (yJ3_length, cJ3_length, 1, (some FieldType.int))
theorem ci_J3_length : CodeIn m_J3_length := q551
abbrev m_J3_indexOfCharUnsafe : Mth := (yJ3_indexOfCharUnsafe, cJ3_indexOfCharUnsafe, 5, (some FieldType.int))
theorem ci_J3_indexOfCharUnsafe : CodeIn m_J3_indexOfCharUnsafe := q562
abbrev m_J3_getChar : Mth := (yJ3_getChar, cJ3_getChar, 2, (some FieldType.char))
theorem ci_J3_getChar : CodeIn m_J3_getChar := q565
abbrev m_J3_indexOfSupplementary : Mth := (yJ3_indexOfSupplementary, cJ3_indexOfSupplementary, 7, (some FieldType.int))
theorem ci_J3_indexOfSupplementary : CodeIn m_J3_indexOfSupplementary := q574
abbrev m_J4_checkFromToIndex : Mth := (yJ4_checkFromToIndex, cJ4_checkFromToIndex, 4, (some FieldType.int))
theorem ci_J4_checkFromToIndex : CodeIn m_J4_checkFromToIndex := q559
abbrev m_J5_isValidCodePoint : Mth := (yJ5_isValidCodePoint, cJ5_isValidCodePoint, 2, (some FieldType.boolean))
theorem ci_J5_isValidCodePoint : CodeIn m_J5_isValidCodePoint := q577
abbrev m_J5_highSurrogate : Mth := (yJ5_highSurrogate, cJ5_highSurrogate, 1, (some FieldType.char))
theorem ci_J5_highSurrogate : CodeIn m_J5_highSurrogate := q580
abbrev m_J5_lowSurrogate : Mth := (yJ5_lowSurrogate, cJ5_lowSurrogate, 1, (some FieldType.char))
theorem ci_J5_lowSurrogate : CodeIn m_J5_lowSurrogate := q584
abbrev m_J6_bitCount : Mth := (yJ6_bitCount, cJ6_bitCount, 1, (some FieldType.int))
theorem ci_J6_bitCount : CodeIn m_J6_bitCount := q993
theorem pf_J6_bitCount : plainFor m_J6_bitCount.1 = true := by decide +kernel
abbrev m_J7_init : Mth := (yJ7_init, cJ7_init, 1, none)
theorem ci_J7_init : CodeIn m_J7_init := q142
abbrev m_X0_init : Mth := (yX0_init, cX0_init, 5, none)
theorem ci_X0_init : CodeIn m_X0_init := q139
theorem pf_X0_init : plainFor m_X0_init.1 = true := plainFor_of_name (by decide)
abbrev m_X0_person : Mth := (yX0_person, cX0_person, 5, (some FieldType.boolean))
theorem ci_X0_person : CodeIn m_X0_person := q392
theorem pf_X0_person : plainFor m_X0_person.1 = true := plainFor_of_name (by decide)
abbrev m_X0_in : Mth := (yX0_in, cX0_in, 2, (some FieldType.boolean))
theorem ci_X0_in : CodeIn m_X0_in := q395
theorem pf_X0_in : plainFor m_X0_in.1 = true := plainFor_of_name (by decide)
abbrev m_X0_wear : Mth := (yX0_wear, cX0_wear, 3, (some FieldType.boolean))
theorem ci_X0_wear : CodeIn m_X0_wear := q399
theorem pf_X0_wear : plainFor m_X0_wear.1 = true := plainFor_of_name (by decide)
abbrev m_X0_isPiece : Mth := (yX0_isPiece, cX0_isPiece, 1, (some FieldType.boolean))
theorem ci_X0_isPiece : CodeIn m_X0_isPiece := q402
theorem pf_X0_isPiece : plainFor m_X0_isPiece.1 = true := plainFor_of_name (by decide)
abbrev m_X0_within : Mth := (yX0_within, cX0_within, 3, (some FieldType.boolean))
theorem ci_X0_within : CodeIn m_X0_within := q405
theorem pf_X0_within : plainFor m_X0_within.1 = true := plainFor_of_name (by decide)
abbrev m_X0_dies : Mth := (yX0_dies, cX0_dies, 2, (some FieldType.boolean))
theorem ci_X0_dies : CodeIn m_X0_dies := q409
theorem pf_X0_dies : plainFor m_X0_dies.1 = true := plainFor_of_name (by decide)
abbrev m_X0_weds : Mth := (yX0_weds, cX0_weds, 3, (some FieldType.boolean))
theorem ci_X0_weds : CodeIn m_X0_weds := q430
theorem pf_X0_weds : plainFor m_X0_weds.1 = true := plainFor_of_name (by decide)
abbrev m_X0_feed : Mth := (yX0_feed, cX0_feed, 6, (some FieldType.int))
theorem ci_X0_feed : CodeIn m_X0_feed := q443
theorem pf_X0_feed : plainFor m_X0_feed.1 = true := plainFor_of_name (by decide)
abbrev m_X0_push : Mth := (yX0_push, cX0_push, 3, none)
theorem ci_X0_push : CodeIn m_X0_push := q447
theorem pf_X0_push : plainFor m_X0_push.1 = true := plainFor_of_name (by decide)
abbrev m_X0_law : Mth := (yX0_law, cX0_law, 4, (some FieldType.int))
theorem ci_X0_law : CodeIn m_X0_law := q451
theorem pf_X0_law : plainFor m_X0_law.1 = true := plainFor_of_name (by decide)
abbrev m_X0_edge : Mth := (yX0_edge, cX0_edge, 6, (some FieldType.int))
theorem ci_X0_edge : CodeIn m_X0_edge := q720
theorem pf_X0_edge : plainFor m_X0_edge.1 = true := plainFor_of_name (by decide)
abbrev m_X0_journey : Mth := (yX0_journey, cX0_journey, 7, (some FieldType.int))
theorem ci_X0_journey : CodeIn m_X0_journey := q861
theorem pf_X0_journey : plainFor m_X0_journey.1 = true := plainFor_of_name (by decide)
abbrev m_X0_isPerson : Mth := (yX0_isPerson, cX0_isPerson, 2, (some FieldType.boolean))
theorem ci_X0_isPerson : CodeIn m_X0_isPerson := q865
theorem pf_X0_isPerson : plainFor m_X0_isPerson.1 = true := plainFor_of_name (by decide)
abbrev m_X0_days : Mth := (yX0_days, cX0_days, 2, (some FieldType.int))
theorem ci_X0_days : CodeIn m_X0_days := q904
theorem pf_X0_days : plainFor m_X0_days.1 = true := plainFor_of_name (by decide)
abbrev m_X0_has : Mth := (yX0_has, cX0_has, 2, (some FieldType.boolean))
theorem ci_X0_has : CodeIn m_X0_has := q924
theorem pf_X0_has : plainFor m_X0_has.1 = true := plainFor_of_name (by decide)
abbrev m_X0_held : Mth := (yX0_held, cX0_held, 2, (some FieldType.int))
theorem ci_X0_held : CodeIn m_X0_held := q1025
theorem pf_X0_held : plainFor m_X0_held.1 = true := plainFor_of_name (by decide)
abbrev m_X0_tried : Mth := (yX0_tried, cX0_tried, 3, (some FieldType.int))
theorem ci_X0_tried : CodeIn m_X0_tried := q1046
theorem pf_X0_tried : plainFor m_X0_tried.1 = true := plainFor_of_name (by decide)
abbrev m_X0_orNone : Mth := (yX0_orNone, cX0_orNone, 1, (some FieldType.int))
theorem ci_X0_orNone : CodeIn m_X0_orNone := q1065
theorem pf_X0_orNone : plainFor m_X0_orNone.1 = true := plainFor_of_name (by decide)
abbrev m_X0_personIs : Mth := (yX0_personIs, cX0_personIs, 4, (some FieldType.int))
theorem ci_X0_personIs : CodeIn m_X0_personIs := q1069
theorem pf_X0_personIs : plainFor m_X0_personIs.1 = true := plainFor_of_name (by decide)
abbrev m_X0_fitting : Mth := (yX0_fitting, cX0_fitting, 4, (some FieldType.int))
theorem ci_X0_fitting : CodeIn m_X0_fitting := q1074
theorem pf_X0_fitting : plainFor m_X0_fitting.1 = true := plainFor_of_name (by decide)
abbrev m_X0_piece : Mth := (yX0_piece, cX0_piece, 4, (some FieldType.int))
theorem ci_X0_piece : CodeIn m_X0_piece := q1079
theorem pf_X0_piece : plainFor m_X0_piece.1 = true := plainFor_of_name (by decide)
abbrev m_X0_slack : Mth := (yX0_slack, cX0_slack, 4, (some FieldType.int))
theorem ci_X0_slack : CodeIn m_X0_slack := q1083
theorem pf_X0_slack : plainFor m_X0_slack.1 = true := plainFor_of_name (by decide)
abbrev m_X0_locks : Mth := (yX0_locks, cX0_locks, 7, (some FieldType.int))
theorem ci_X0_locks : CodeIn m_X0_locks := q1092
theorem pf_X0_locks : plainFor m_X0_locks.1 = true := plainFor_of_name (by decide)
abbrev m_X0_areFit : Mth := (yX0_areFit, cX0_areFit, 3, (some FieldType.boolean))
theorem ci_X0_areFit : CodeIn m_X0_areFit := q1096
theorem pf_X0_areFit : plainFor m_X0_areFit.1 = true := plainFor_of_name (by decide)
abbrev m_X0_most : Mth := (yX0_most, cX0_most, 7, (some FieldType.int))
theorem ci_X0_most : CodeIn m_X0_most := q1100
theorem pf_X0_most : plainFor m_X0_most.1 = true := plainFor_of_name (by decide)
abbrev m_X0_isAsker : Mth := (yX0_isAsker, cX0_isAsker, 2, (some FieldType.boolean))
theorem ci_X0_isAsker : CodeIn m_X0_isAsker := q1104
theorem pf_X0_isAsker : plainFor m_X0_isAsker.1 = true := plainFor_of_name (by decide)
abbrev m_X0_laysBest : Mth := (yX0_laysBest, cX0_laysBest, 5, (some FieldType.int))
theorem ci_X0_laysBest : CodeIn m_X0_laysBest := q1108
theorem pf_X0_laysBest : plainFor m_X0_laysBest.1 = true := plainFor_of_name (by decide)
abbrev m_X0_gainBy : Mth := (yX0_gainBy, cX0_gainBy, 4, (some FieldType.int))
theorem ci_X0_gainBy : CodeIn m_X0_gainBy := q1113
theorem pf_X0_gainBy : plainFor m_X0_gainBy.1 = true := plainFor_of_name (by decide)
abbrev m_X0_stable : Mth := (yX0_stable, cX0_stable, 4, (some FieldType.int))
theorem ci_X0_stable : CodeIn m_X0_stable := q1117
theorem pf_X0_stable : plainFor m_X0_stable.1 = true := plainFor_of_name (by decide)
abbrev m_X0_laysStable : Mth := (yX0_laysStable, cX0_laysStable, 4, none)
theorem ci_X0_laysStable : CodeIn m_X0_laysStable := q1121
theorem pf_X0_laysStable : plainFor m_X0_laysStable.1 = true := plainFor_of_name (by decide)
abbrev m_X0_nextFor : Mth := (yX0_nextFor, cX0_nextFor, 4, (some FieldType.int))
theorem ci_X0_nextFor : CodeIn m_X0_nextFor := q1125
theorem pf_X0_nextFor : plainFor m_X0_nextFor.1 = true := plainFor_of_name (by decide)
abbrev m_X0_likesMore : Mth := (yX0_likesMore, cX0_likesMore, 4, (some FieldType.boolean))
theorem ci_X0_likesMore : CodeIn m_X0_likesMore := q1129
theorem pf_X0_likesMore : plainFor m_X0_likesMore.1 = true := plainFor_of_name (by decide)
abbrev m_X0_unrest : Mth := (yX0_unrest, cX0_unrest, 6, (some FieldType.int))
theorem ci_X0_unrest : CodeIn m_X0_unrest := q1133
theorem pf_X0_unrest : plainFor m_X0_unrest.1 = true := plainFor_of_name (by decide)
abbrev m_X0_wouldLeave : Mth := (yX0_wouldLeave, cX0_wouldLeave, 4, (some FieldType.boolean))
theorem ci_X0_wouldLeave : CodeIn m_X0_wouldLeave := q1137
theorem pf_X0_wouldLeave : plainFor m_X0_wouldLeave.1 = true := plainFor_of_name (by decide)
abbrev m_X0_search : Mth := (yX0_search, cX0_search, 5, (some FieldType.int))
theorem ci_X0_search : CodeIn m_X0_search := q1141
theorem pf_X0_search : plainFor m_X0_search.1 = true := plainFor_of_name (by decide)
abbrev m_X0_isSearch : Mth := (yX0_isSearch, cX0_isSearch, 5, (some FieldType.boolean))
theorem ci_X0_isSearch : CodeIn m_X0_isSearch := q1145
theorem pf_X0_isSearch : plainFor m_X0_isSearch.1 = true := plainFor_of_name (by decide)
abbrev m_X0_searches : Mth := (yX0_searches, cX0_searches, 8, none)
theorem ci_X0_searches : CodeIn m_X0_searches := q1150
theorem pf_X0_searches : plainFor m_X0_searches.1 = true := plainFor_of_name (by decide)
abbrev m_X0_divisor : Mth := (yX0_divisor, cX0_divisor, 2, (some FieldType.int))
theorem ci_X0_divisor : CodeIn m_X0_divisor := q1153
theorem pf_X0_divisor : plainFor m_X0_divisor.1 = true := plainFor_of_name (by decide)
abbrev m_X0_sanding : Mth := (yX0_sanding, cX0_sanding, 17, (some FieldType.int))
theorem ci_X0_sanding : CodeIn m_X0_sanding := q1157
theorem pf_X0_sanding : plainFor m_X0_sanding.1 = true := plainFor_of_name (by decide)
abbrev m_X0_laysWorks : Mth := (yX0_laysWorks, cX0_laysWorks, 10, none)
theorem ci_X0_laysWorks : CodeIn m_X0_laysWorks := q1161
theorem pf_X0_laysWorks : plainFor m_X0_laysWorks.1 = true := plainFor_of_name (by decide)
abbrev m_X0_workBy : Mth := (yX0_workBy, cX0_workBy, 10, (some FieldType.int))
theorem ci_X0_workBy : CodeIn m_X0_workBy := q1165
theorem pf_X0_workBy : plainFor m_X0_workBy.1 = true := plainFor_of_name (by decide)
abbrev m_X0_gapAt : Mth := (yX0_gapAt, cX0_gapAt, 3, (some FieldType.int))
theorem ci_X0_gapAt : CodeIn m_X0_gapAt := q1168
theorem pf_X0_gapAt : plainFor m_X0_gapAt.1 = true := plainFor_of_name (by decide)
abbrev m_X0_steaming : Mth := (yX0_steaming, cX0_steaming, 10, (some FieldType.int))
theorem ci_X0_steaming : CodeIn m_X0_steaming := q1175
theorem pf_X0_steaming : plainFor m_X0_steaming.1 = true := plainFor_of_name (by decide)
abbrev m_X0_steams : Mth := (yX0_steams, cX0_steams, 5, none)
theorem ci_X0_steams : CodeIn m_X0_steams := q1179
theorem pf_X0_steams : plainFor m_X0_steams.1 = true := plainFor_of_name (by decide)
abbrev m_X0_worn : Mth := (yX0_worn, cX0_worn, 13, (some FieldType.int))
theorem ci_X0_worn : CodeIn m_X0_worn := q1183
theorem pf_X0_worn : plainFor m_X0_worn.1 = true := plainFor_of_name (by decide)
abbrev m_X0_cutter : Mth := (yX0_cutter, cX0_cutter, 6, (some FieldType.int))
theorem ci_X0_cutter : CodeIn m_X0_cutter := q1190
theorem pf_X0_cutter : plainFor m_X0_cutter.1 = true := plainFor_of_name (by decide)
abbrev m_X0_fitsAll : Mth := (yX0_fitsAll, cX0_fitsAll, 4, (some FieldType.boolean))
theorem ci_X0_fitsAll : CodeIn m_X0_fitsAll := q1194
theorem pf_X0_fitsAll : plainFor m_X0_fitsAll.1 = true := plainFor_of_name (by decide)
abbrev m_X0_isMade : Mth := (yX0_isMade, cX0_isMade, 8, (some FieldType.boolean))
theorem ci_X0_isMade : CodeIn m_X0_isMade := q1198
theorem pf_X0_isMade : plainFor m_X0_isMade.1 = true := plainFor_of_name (by decide)
abbrev m_X0_copies : Mth := (yX0_copies, cX0_copies, 8, (some FieldType.int))
theorem ci_X0_copies : CodeIn m_X0_copies := q1202
theorem pf_X0_copies : plainFor m_X0_copies.1 = true := plainFor_of_name (by decide)
abbrev m_X0_mate : Mth := (yX0_mate, cX0_mate, 3, (some FieldType.int))
theorem ci_X0_mate : CodeIn m_X0_mate := q1210
theorem pf_X0_mate : plainFor m_X0_mate.1 = true := plainFor_of_name (by decide)
abbrev m_X0_seed : Mth := (yX0_seed, cX0_seed, 2, (some FieldType.boolean))
theorem ci_X0_seed : CodeIn m_X0_seed := q1214
theorem pf_X0_seed : plainFor m_X0_seed.1 = true := plainFor_of_name (by decide)
abbrev m_X0_keep : Mth := (yX0_keep, cX0_keep, 1, (some FieldType.int))
theorem ci_X0_keep : CodeIn m_X0_keep := q1219
theorem pf_X0_keep : plainFor m_X0_keep.1 = true := plainFor_of_name (by decide)
abbrev m_X0_undo : Mth := (yX0_undo, cX0_undo, 1, (some FieldType.boolean))
theorem ci_X0_undo : CodeIn m_X0_undo := q1223
theorem pf_X0_undo : plainFor m_X0_undo.1 = true := plainFor_of_name (by decide)
abbrev m_X0_check : Mth := (yX0_check, cX0_check, 4, (some FieldType.int))
theorem ci_X0_check : CodeIn m_X0_check := q1227
theorem pf_X0_check : plainFor m_X0_check.1 = true := plainFor_of_name (by decide)
abbrev m_X0_count : Mth := (yX0_count, cX0_count, 2, (some FieldType.int))
theorem ci_X0_count : CodeIn m_X0_count := q1231
theorem pf_X0_count : plainFor m_X0_count.1 = true := plainFor_of_name (by decide)
abbrev m_X0_inTown : Mth := (yX0_inTown, cX0_inTown, 4, (some FieldType.int))
theorem ci_X0_inTown : CodeIn m_X0_inTown := q1235
theorem pf_X0_inTown : plainFor m_X0_inTown.1 = true := plainFor_of_name (by decide)
abbrev m_X0_told : Mth := (yX0_told, cX0_told, 4, (some FieldType.int))
theorem ci_X0_told : CodeIn m_X0_told := q1239
theorem pf_X0_told : plainFor m_X0_told.1 = true := plainFor_of_name (by decide)
abbrev m_X1_init : Mth := (yX1_init, cX1_init, 1, none)
theorem ci_X1_init : CodeIn m_X1_init := q150
theorem pf_X1_init : plainFor m_X1_init.1 = true := plainFor_of_name (by decide)
abbrev m_X10_init : Mth := (yX10_init, cX10_init, 3, none)
theorem ci_X10_init : CodeIn m_X10_init := q646
theorem pf_X10_init : plainFor m_X10_init.1 = true := plainFor_of_name (by decide)
abbrev m_X10_worth : Mth := (yX10_worth, cX10_worth, 4, (some FieldType.int))
theorem ci_X10_worth : CodeIn m_X10_worth := q1002
theorem pf_X10_worth : plainFor m_X10_worth.1 = true := plainFor_of_name (by decide)
abbrev m_X10_worked : Mth := (yX10_worked, cX10_worked, 4, (some FieldType.int))
theorem ci_X10_worked : CodeIn m_X10_worked := q1006
theorem pf_X10_worked : plainFor m_X10_worked.1 = true := plainFor_of_name (by decide)
abbrev m_X11_init : Mth := (yX11_init, cX11_init, 2, none)
theorem ci_X11_init : CodeIn m_X11_init := q624
theorem pf_X11_init : plainFor m_X11_init.1 = true := plainFor_of_name (by decide)
abbrev m_X11_worth : Mth := (yX11_worth, cX11_worth, 2, (some FieldType.int))
theorem ci_X11_worth : CodeIn m_X11_worth := q999
theorem pf_X11_worth : plainFor m_X11_worth.1 = true := plainFor_of_name (by decide)
abbrev m_X12_init : Mth := (yX12_init, cX12_init, 2, none)
theorem ci_X12_init : CodeIn m_X12_init := q638
theorem pf_X12_init : plainFor m_X12_init.1 = true := plainFor_of_name (by decide)
abbrev m_X12_worth : Mth := (yX12_worth, cX12_worth, 2, (some FieldType.int))
theorem ci_X12_worth : CodeIn m_X12_worth := q980
theorem pf_X12_worth : plainFor m_X12_worth.1 = true := plainFor_of_name (by decide)
abbrev m_X13_init : Mth := (yX13_init, cX13_init, 1, none)
theorem ci_X13_init : CodeIn m_X13_init := q680
theorem pf_X13_init : plainFor m_X13_init.1 = true := plainFor_of_name (by decide)
abbrev m_X14_init : Mth := (yX14_init, cX14_init, 3, none)
theorem ci_X14_init : CodeIn m_X14_init := q704
theorem pf_X14_init : plainFor m_X14_init.1 = true := plainFor_of_name (by decide)
abbrev m_X14_holds : Mth := (yX14_holds, cX14_holds, 4, (some FieldType.int))
theorem ci_X14_holds : CodeIn m_X14_holds := q1012
theorem pf_X14_holds : plainFor m_X14_holds.1 = true := plainFor_of_name (by decide)
abbrev m_X15_init : Mth := (yX15_init, cX15_init, 2, none)
theorem ci_X15_init : CodeIn m_X15_init := q677
theorem pf_X15_init : plainFor m_X15_init.1 = true := plainFor_of_name (by decide)
abbrev m_X15_holds : Mth := (yX15_holds, cX15_holds, 3, (some FieldType.int))
theorem ci_X15_holds : CodeIn m_X15_holds := q1009
theorem pf_X15_holds : plainFor m_X15_holds.1 = true := plainFor_of_name (by decide)
abbrev m_X16_init : Mth := (yX16_init, cX16_init, 4, none)
theorem ci_X16_init : CodeIn m_X16_init := q690
theorem pf_X16_init : plainFor m_X16_init.1 = true := plainFor_of_name (by decide)
abbrev m_X16_holds : Mth := (yX16_holds, cX16_holds, 5, (some FieldType.int))
theorem ci_X16_holds : CodeIn m_X16_holds := q974
theorem pf_X16_holds : plainFor m_X16_holds.1 = true := plainFor_of_name (by decide)
abbrev m_X17_init : Mth := (yX17_init, cX17_init, 3, none)
theorem ci_X17_init : CodeIn m_X17_init := q728
theorem pf_X17_init : plainFor m_X17_init.1 = true := plainFor_of_name (by decide)
abbrev m_X17_reads : Mth := (yX17_reads, cX17_reads, 1, (some FieldType.boolean))
theorem ci_X17_reads : CodeIn m_X17_reads := q765
theorem pf_X17_reads : plainFor m_X17_reads.1 = true := plainFor_of_name (by decide)
abbrev m_X17_place : Mth := (yX17_place, cX17_place, 1, (some FieldType.int))
theorem ci_X17_place : CodeIn m_X17_place := q777
theorem pf_X17_place : plainFor m_X17_place.1 = true := plainFor_of_name (by decide)
abbrev m_X17_here : Mth := (yX17_here, cX17_here, 1, (some FieldType.int))
theorem ci_X17_here : CodeIn m_X17_here := q783
theorem pf_X17_here : plainFor m_X17_here.1 = true := plainFor_of_name (by decide)
abbrev m_X17_goes : Mth := (yX17_goes, cX17_goes, 1, none)
theorem ci_X17_goes : CodeIn m_X17_goes := q789
theorem pf_X17_goes : plainFor m_X17_goes.1 = true := plainFor_of_name (by decide)
abbrev m_X17_sees : Mth := (yX17_sees, cX17_sees, 3, (some FieldType.boolean))
theorem ci_X17_sees : CodeIn m_X17_sees := q795
theorem pf_X17_sees : plainFor m_X17_sees.1 = true := plainFor_of_name (by decide)
abbrev m_X17_bad : Mth := (yX17_bad, cX17_bad, 3, none)
theorem ci_X17_bad : CodeIn m_X17_bad := q802
theorem pf_X17_bad : plainFor m_X17_bad.1 = true := plainFor_of_name (by decide)
abbrev m_X17_isGood : Mth := (yX17_isGood, cX17_isGood, 1, (some FieldType.boolean))
theorem ci_X17_isGood : CodeIn m_X17_isGood := q808
theorem pf_X17_isGood : plainFor m_X17_isGood.1 = true := plainFor_of_name (by decide)
abbrev m_X17_times : Mth := (yX17_times, cX17_times, 3, (some FieldType.int))
theorem ci_X17_times : CodeIn m_X17_times := q814
theorem pf_X17_times : plainFor m_X17_times.1 = true := plainFor_of_name (by decide)
abbrev m_X17_isEnd : Mth := (yX17_isEnd, cX17_isEnd, 1, (some FieldType.boolean))
theorem ci_X17_isEnd : CodeIn m_X17_isEnd := q848
theorem pf_X17_isEnd : plainFor m_X17_isEnd.1 = true := plainFor_of_name (by decide)
abbrev m_X17_faulty : Mth := (yX17_faulty, cX17_faulty, 1, (some FieldType.int))
theorem ci_X17_faulty : CodeIn m_X17_faulty := q854
theorem pf_X17_faulty : plainFor m_X17_faulty.1 = true := plainFor_of_name (by decide)
abbrev m_X18_init : Mth := (yX18_init, cX18_init, 3, none)
theorem ci_X18_init : CodeIn m_X18_init := q725
theorem pf_X18_init : plainFor m_X18_init.1 = true := plainFor_of_name (by decide)
abbrev m_X18_read : Mth := (yX18_read, cX18_read, 6, (some FieldType.int))
theorem ci_X18_read : CodeIn m_X18_read := q759
theorem pf_X18_read : plainFor m_X18_read.1 = true := plainFor_of_name (by decide)
abbrev m_X18_entry : Mth := (yX18_entry, cX18_entry, 6, none)
theorem ci_X18_entry : CodeIn m_X18_entry := q771
theorem pf_X18_entry : plainFor m_X18_entry.1 = true := plainFor_of_name (by decide)
abbrev m_X19_entry : Mth := (yX19_entry, cX19_entry, 4, none)
theorem ci_X19_entry : CodeIn m_X19_entry := q820
theorem pf_X19_entry : plainFor m_X19_entry.1 = true := plainFor_of_name (by decide)
abbrev m_X19_init : Mth := (yX19_init, cX19_init, 3, none)
theorem ci_X19_init : CodeIn m_X19_init := q870
theorem pf_X19_init : plainFor m_X19_init.1 = true := plainFor_of_name (by decide)
abbrev m_X19_read : Mth := (yX19_read, cX19_read, 1, (some FieldType.int))
theorem ci_X19_read : CodeIn m_X19_read := q894
theorem pf_X19_read : plainFor m_X19_read.1 = true := plainFor_of_name (by decide)
abbrev m_X2_init : Mth := (yX2_init, cX2_init, 2, none)
theorem ci_X2_init : CodeIn m_X2_init := q147
theorem pf_X2_init : plainFor m_X2_init.1 = true := plainFor_of_name (by decide)
abbrev m_X2_of : Mth := (yX2_of, cX2_of, 5, (some (FieldType.object "PuzzleWed$Moment")))
theorem ci_X2_of : CodeIn m_X2_of := q960
theorem pf_X2_of : plainFor m_X2_of.1 = true := plainFor_of_name (by decide)
abbrev m_X2_tells : Mth := (yX2_tells, cX2_tells, 3, (some FieldType.int))
theorem ci_X2_tells : CodeIn m_X2_tells := q964
theorem pf_X2_tells : plainFor m_X2_tells.1 = true := plainFor_of_name (by decide)
abbrev m_X2_value : Mth := (yX2_value, cX2_value, 4, (some FieldType.int))
theorem ci_X2_value : CodeIn m_X2_value := q986
theorem pf_X2_value : plainFor m_X2_value.1 = true := plainFor_of_name (by decide)
abbrev m_X3_init : Mth := (yX3_init, cX3_init, 3, none)
theorem ci_X3_init : CodeIn m_X3_init := q177
theorem pf_X3_init : plainFor m_X3_init.1 = true := plainFor_of_name (by decide)
abbrev m_X3_lives : Mth := (yX3_lives, cX3_lives, 2, (some FieldType.boolean))
theorem ci_X3_lives : CodeIn m_X3_lives := q413
theorem pf_X3_lives : plainFor m_X3_lives.1 = true := plainFor_of_name (by decide)
abbrev m_X3_dies : Mth := (yX3_dies, cX3_dies, 7, none)
theorem ci_X3_dies : CodeIn m_X3_dies := q422
theorem pf_X3_dies : plainFor m_X3_dies.1 = true := plainFor_of_name (by decide)
abbrev m_X3_part : Mth := (yX3_part, cX3_part, 3, none)
theorem ci_X3_part : CodeIn m_X3_part := q426
theorem pf_X3_part : plainFor m_X3_part.1 = true := plainFor_of_name (by decide)
abbrev m_X3_wed : Mth := (yX3_wed, cX3_wed, 3, none)
theorem ci_X3_wed : CodeIn m_X3_wed := q439
theorem pf_X3_wed : plainFor m_X3_wed.1 = true := plainFor_of_name (by decide)
abbrev m_X3_goes : Mth := (yX3_goes, cX3_goes, 3, (some (FieldType.object "PuzzleWed$Land")))
theorem ci_X3_goes : CodeIn m_X3_goes := q908
theorem pf_X3_goes : plainFor m_X3_goes.1 = true := plainFor_of_name (by decide)
abbrev m_X3_dayGoes : Mth := (yX3_dayGoes, cX3_dayGoes, 5, none)
theorem ci_X3_dayGoes : CodeIn m_X3_dayGoes := q912
theorem pf_X3_dayGoes : plainFor m_X3_dayGoes.1 = true := plainFor_of_name (by decide)
abbrev m_X3_travels : Mth := (yX3_travels, cX3_travels, 2, none)
theorem ci_X3_travels : CodeIn m_X3_travels := q916
theorem pf_X3_travels : plainFor m_X3_travels.1 = true := plainFor_of_name (by decide)
abbrev m_X3_meets : Mth := (yX3_meets, cX3_meets, 4, none)
theorem ci_X3_meets : CodeIn m_X3_meets := q921
theorem pf_X3_meets : plainFor m_X3_meets.1 = true := plainFor_of_name (by decide)
abbrev m_X3_tries : Mth := (yX3_tries, cX3_tries, 8, none)
theorem ci_X3_tries : CodeIn m_X3_tries := q928
theorem pf_X3_tries : plainFor m_X3_tries.1 = true := plainFor_of_name (by decide)
abbrev m_X3_haveTried : Mth := (yX3_haveTried, cX3_haveTried, 3, none)
theorem ci_X3_haveTried : CodeIn m_X3_haveTried := q932
theorem pf_X3_haveTried : plainFor m_X3_haveTried.1 = true := plainFor_of_name (by decide)
abbrev m_X3_fit : Mth := (yX3_fit, cX3_fit, 4, (some FieldType.boolean))
theorem ci_X3_fit : CodeIn m_X3_fit := q936
theorem pf_X3_fit : plainFor m_X3_fit.1 = true := plainFor_of_name (by decide)
abbrev m_X3_slack : Mth := (yX3_slack, cX3_slack, 6, (some FieldType.int))
theorem ci_X3_slack : CodeIn m_X3_slack := q940
theorem pf_X3_slack : plainFor m_X3_slack.1 = true := plainFor_of_name (by decide)
abbrev m_X3_isFirst : Mth := (yX3_isFirst, cX3_isFirst, 3, (some FieldType.boolean))
theorem ci_X3_isFirst : CodeIn m_X3_isFirst := q956
theorem pf_X3_isFirst : plainFor m_X3_isFirst.1 = true := plainFor_of_name (by decide)
abbrev m_X3_holds : Mth := (yX3_holds, cX3_holds, 4, (some FieldType.int))
theorem ci_X3_holds : CodeIn m_X3_holds := q990
theorem pf_X3_holds : plainFor m_X3_holds.1 = true := plainFor_of_name (by decide)
abbrev m_X3_creaks : Mth := (yX3_creaks, cX3_creaks, 5, none)
theorem ci_X3_creaks : CodeIn m_X3_creaks := q1037
theorem pf_X3_creaks : plainFor m_X3_creaks.1 = true := plainFor_of_name (by decide)
abbrev m_X3_draw : Mth := (yX3_draw, cX3_draw, 1, (some FieldType.int))
theorem ci_X3_draw : CodeIn m_X3_draw := q1041
theorem pf_X3_draw : plainFor m_X3_draw.1 = true := plainFor_of_name (by decide)
abbrev m_X3_takes : Mth := (yX3_takes, cX3_takes, 3, (some (FieldType.object "PuzzleWed$Land")))
theorem ci_X3_takes : CodeIn m_X3_takes := q1050
theorem pf_X3_takes : plainFor m_X3_takes.1 = true := plainFor_of_name (by decide)
abbrev m_X3_couples : Mth := (yX3_couples, cX3_couples, 3, (some FieldType.int))
theorem ci_X3_couples : CodeIn m_X3_couples := q1062
theorem pf_X3_couples : plainFor m_X3_couples.1 = true := plainFor_of_name (by decide)
abbrev m_X3_likes : Mth := (yX3_likes, cX3_likes, 3, (some FieldType.int))
theorem ci_X3_likes : CodeIn m_X3_likes := q1088
theorem pf_X3_likes : plainFor m_X3_likes.1 = true := plainFor_of_name (by decide)
abbrev m_X4_init : Mth := (yX4_init, cX4_init, 1, none)
theorem ci_X4_init : CodeIn m_X4_init := q186
theorem pf_X4_init : plainFor m_X4_init.1 = true := plainFor_of_name (by decide)
abbrev m_X4_lives : Mth := (yX4_lives, cX4_lives, 1, (some FieldType.boolean))
theorem ci_X4_lives : CodeIn m_X4_lives := q418
theorem pf_X4_lives : plainFor m_X4_lives.1 = true := plainFor_of_name (by decide)
abbrev m_X4_isFree : Mth := (yX4_isFree, cX4_isFree, 1, (some FieldType.boolean))
theorem ci_X4_isFree : CodeIn m_X4_isFree := q434
theorem pf_X4_isFree : plainFor m_X4_isFree.1 = true := plainFor_of_name (by decide)
abbrev m_X4_takes : Mth := (yX4_takes, cX4_takes, 3, none)
theorem ci_X4_takes : CodeIn m_X4_takes := q1054
theorem pf_X4_takes : plainFor m_X4_takes.1 = true := plainFor_of_name (by decide)
abbrev m_X5_init : Mth := (yX5_init, cX5_init, 1, none)
theorem ci_X5_init : CodeIn m_X5_init := q245
theorem pf_X5_init : plainFor m_X5_init.1 = true := plainFor_of_name (by decide)
abbrev m_X5_slack : Mth := (yX5_slack, cX5_slack, 2, (some FieldType.int))
theorem ci_X5_slack : CodeIn m_X5_slack := q945
theorem pf_X5_slack : plainFor m_X5_slack.1 = true := plainFor_of_name (by decide)
abbrev m_X5_gap : Mth := (yX5_gap, cX5_gap, 4, (some FieldType.int))
theorem ci_X5_gap : CodeIn m_X5_gap := q949
theorem pf_X5_gap : plainFor m_X5_gap.1 = true := plainFor_of_name (by decide)
abbrev m_X5_wears : Mth := (yX5_wears, cX5_wears, 2, none)
theorem ci_X5_wears : CodeIn m_X5_wears := q1032
theorem pf_X5_wears : plainFor m_X5_wears.1 = true := plainFor_of_name (by decide)
abbrev m_X5_takes : Mth := (yX5_takes, cX5_takes, 3, none)
theorem ci_X5_takes : CodeIn m_X5_takes := q1058
theorem pf_X5_takes : plainFor m_X5_takes.1 = true := plainFor_of_name (by decide)
abbrev m_X5_isLike : Mth := (yX5_isLike, cX5_isLike, 3, (some FieldType.boolean))
theorem ci_X5_isLike : CodeIn m_X5_isLike := q1206
theorem pf_X5_isLike : plainFor m_X5_isLike.1 = true := plainFor_of_name (by decide)
abbrev m_X6_init : Mth := (yX6_init, cX6_init, 1, none)
theorem ci_X6_init : CodeIn m_X6_init := q299
theorem pf_X6_init : plainFor m_X6_init.1 = true := plainFor_of_name (by decide)
abbrev m_X6_tells : Mth := (yX6_tells, cX6_tells, 4, (some FieldType.int))
theorem ci_X6_tells : CodeIn m_X6_tells := q968
theorem pf_X6_tells : plainFor m_X6_tells.1 = true := plainFor_of_name (by decide)
abbrev m_X7_init : Mth := (yX7_init, cX7_init, 2, none)
theorem ci_X7_init : CodeIn m_X7_init := q1244
theorem pf_X7_init : plainFor m_X7_init.1 = true := plainFor_of_name (by decide)
abbrev m_X7_person : Mth := (yX7_person, cX7_person, 4, (some FieldType.boolean))
theorem ci_X7_person : CodeIn m_X7_person := q1393
theorem pf_X7_person : plainFor m_X7_person.1 = true := plainFor_of_name (by decide)
abbrev m_X7_isTwelve : Mth := (yX7_isTwelve, cX7_isTwelve, 1, (some FieldType.boolean))
theorem ci_X7_isTwelve : CodeIn m_X7_isTwelve := q1396
theorem pf_X7_isTwelve : plainFor m_X7_isTwelve.1 = true := plainFor_of_name (by decide)
abbrev m_X7_isPerson : Mth := (yX7_isPerson, cX7_isPerson, 2, (some FieldType.boolean))
theorem ci_X7_isPerson : CodeIn m_X7_isPerson := q1400
theorem pf_X7_isPerson : plainFor m_X7_isPerson.1 = true := plainFor_of_name (by decide)
abbrev m_X7_has : Mth := (yX7_has, cX7_has, 2, (some FieldType.boolean))
theorem ci_X7_has : CodeIn m_X7_has := q1403
theorem pf_X7_has : plainFor m_X7_has.1 = true := plainFor_of_name (by decide)
abbrev m_X7_in : Mth := (yX7_in, cX7_in, 3, (some FieldType.boolean))
theorem ci_X7_in : CodeIn m_X7_in := q1406
theorem pf_X7_in : plainFor m_X7_in.1 = true := plainFor_of_name (by decide)
abbrev m_X7_wear : Mth := (yX7_wear, cX7_wear, 3, (some FieldType.boolean))
theorem ci_X7_wear : CodeIn m_X7_wear := q1410
theorem pf_X7_wear : plainFor m_X7_wear.1 = true := plainFor_of_name (by decide)
abbrev m_X7_dies : Mth := (yX7_dies, cX7_dies, 3, (some FieldType.boolean))
theorem ci_X7_dies : CodeIn m_X7_dies := q1414
theorem pf_X7_dies : plainFor m_X7_dies.1 = true := plainFor_of_name (by decide)
abbrev m_X7_lives : Mth := (yX7_lives, cX7_lives, 2, (some FieldType.boolean))
theorem ci_X7_lives : CodeIn m_X7_lives := q1418
theorem pf_X7_lives : plainFor m_X7_lives.1 = true := plainFor_of_name (by decide)
abbrev m_X7_parts : Mth := (yX7_parts, cX7_parts, 3, none)
theorem ci_X7_parts : CodeIn m_X7_parts := q1422
theorem pf_X7_parts : plainFor m_X7_parts.1 = true := plainFor_of_name (by decide)
abbrev m_X7_weds : Mth := (yX7_weds, cX7_weds, 3, (some FieldType.boolean))
theorem ci_X7_weds : CodeIn m_X7_weds := q1426
theorem pf_X7_weds : plainFor m_X7_weds.1 = true := plainFor_of_name (by decide)
abbrev m_X7_isFree : Mth := (yX7_isFree, cX7_isFree, 2, (some FieldType.boolean))
theorem ci_X7_isFree : CodeIn m_X7_isFree := q1430
theorem pf_X7_isFree : plainFor m_X7_isFree.1 = true := plainFor_of_name (by decide)
abbrev m_X7_wedsTwo : Mth := (yX7_wedsTwo, cX7_wedsTwo, 3, none)
theorem ci_X7_wedsTwo : CodeIn m_X7_wedsTwo := q1434
theorem pf_X7_wedsTwo : plainFor m_X7_wedsTwo.1 = true := plainFor_of_name (by decide)
abbrev m_X7_feed : Mth := (yX7_feed, cX7_feed, 6, (some FieldType.int))
theorem ci_X7_feed : CodeIn m_X7_feed := q1438
theorem pf_X7_feed : plainFor m_X7_feed.1 = true := plainFor_of_name (by decide)
abbrev m_X7_types : Mth := (yX7_types, cX7_types, 3, none)
theorem ci_X7_types : CodeIn m_X7_types := q1442
theorem pf_X7_types : plainFor m_X7_types.1 = true := plainFor_of_name (by decide)
abbrev m_X7_law : Mth := (yX7_law, cX7_law, 4, (some FieldType.int))
theorem ci_X7_law : CodeIn m_X7_law := q1446
theorem pf_X7_law : plainFor m_X7_law.1 = true := plainFor_of_name (by decide)
abbrev m_X7_readsClause : Mth := (yX7_readsClause, cX7_readsClause, 2, (some FieldType.boolean))
theorem ci_X7_readsClause : CodeIn m_X7_readsClause := q1450
theorem pf_X7_readsClause : plainFor m_X7_readsClause.1 = true := plainFor_of_name (by decide)
abbrev m_X7_here : Mth := (yX7_here, cX7_here, 1, (some FieldType.int))
theorem ci_X7_here : CodeIn m_X7_here := q1454
theorem pf_X7_here : plainFor m_X7_here.1 = true := plainFor_of_name (by decide)
abbrev m_X7_isClause : Mth := (yX7_isClause, cX7_isClause, 1, (some FieldType.boolean))
theorem ci_X7_isClause : CodeIn m_X7_isClause := q1457
theorem pf_X7_isClause : plainFor m_X7_isClause.1 = true := plainFor_of_name (by decide)
abbrev m_X7_wrongAt : Mth := (yX7_wrongAt, cX7_wrongAt, 3, (some FieldType.boolean))
theorem ci_X7_wrongAt : CodeIn m_X7_wrongAt := q1461
theorem pf_X7_wrongAt : plainFor m_X7_wrongAt.1 = true := plainFor_of_name (by decide)
abbrev m_X7_readsSum : Mth := (yX7_readsSum, cX7_readsSum, 3, (some FieldType.boolean))
theorem ci_X7_readsSum : CodeIn m_X7_readsSum := q1465
theorem pf_X7_readsSum : plainFor m_X7_readsSum.1 = true := plainFor_of_name (by decide)
abbrev m_X7_readsFactor : Mth := (yX7_readsFactor, cX7_readsFactor, 2, (some FieldType.boolean))
theorem ci_X7_readsFactor : CodeIn m_X7_readsFactor := q1469
theorem pf_X7_readsFactor : plainFor m_X7_readsFactor.1 = true := plainFor_of_name (by decide)
abbrev m_X7_opens : Mth := (yX7_opens, cX7_opens, 2, (some FieldType.boolean))
theorem ci_X7_opens : CodeIn m_X7_opens := q1473
theorem pf_X7_opens : plainFor m_X7_opens.1 = true := plainFor_of_name (by decide)
abbrev m_X7_isDigit : Mth := (yX7_isDigit, cX7_isDigit, 1, (some FieldType.boolean))
theorem ci_X7_isDigit : CodeIn m_X7_isDigit := q1478
theorem pf_X7_isDigit : plainFor m_X7_isDigit.1 = true := plainFor_of_name (by decide)
abbrev m_X7_readsNumber : Mth := (yX7_readsNumber, cX7_readsNumber, 2, (some FieldType.boolean))
theorem ci_X7_readsNumber : CodeIn m_X7_readsNumber := q1482
theorem pf_X7_readsNumber : plainFor m_X7_readsNumber.1 = true := plainFor_of_name (by decide)
abbrev m_X7_notes : Mth := (yX7_notes, cX7_notes, 3, none)
theorem ci_X7_notes : CodeIn m_X7_notes := q1486
theorem pf_X7_notes : plainFor m_X7_notes.1 = true := plainFor_of_name (by decide)
abbrev m_X7_factOf : Mth := (yX7_factOf, cX7_factOf, 1, (some FieldType.int))
theorem ci_X7_factOf : CodeIn m_X7_factOf := q1489
theorem pf_X7_factOf : plainFor m_X7_factOf.1 = true := plainFor_of_name (by decide)
abbrev m_X7_sumSign : Mth := (yX7_sumSign, cX7_sumSign, 1, (some FieldType.int))
theorem ci_X7_sumSign : CodeIn m_X7_sumSign := q1492
theorem pf_X7_sumSign : plainFor m_X7_sumSign.1 = true := plainFor_of_name (by decide)
abbrev m_X7_closesSums : Mth := (yX7_closesSums, cX7_closesSums, 2, none)
theorem ci_X7_closesSums : CodeIn m_X7_closesSums := q1496
theorem pf_X7_closesSums : plainFor m_X7_closesSums.1 = true := plainFor_of_name (by decide)
abbrev m_X7_waitTop : Mth := (yX7_waitTop, cX7_waitTop, 1, (some FieldType.int))
theorem ci_X7_waitTop : CodeIn m_X7_waitTop := q1500
theorem pf_X7_waitTop : plainFor m_X7_waitTop.1 = true := plainFor_of_name (by decide)
abbrev m_X7_hasOpenSum : Mth := (yX7_hasOpenSum, cX7_hasOpenSum, 3, (some FieldType.boolean))
theorem ci_X7_hasOpenSum : CodeIn m_X7_hasOpenSum := q1504
theorem pf_X7_hasOpenSum : plainFor m_X7_hasOpenSum.1 = true := plainFor_of_name (by decide)
abbrev m_X7_readsCondition : Mth := (yX7_readsCondition, cX7_readsCondition, 1, (some FieldType.boolean))
theorem ci_X7_readsCondition : CodeIn m_X7_readsCondition := q1508
theorem pf_X7_readsCondition : plainFor m_X7_readsCondition.1 = true := plainFor_of_name (by decide)
abbrev m_X7_readsCompared : Mth := (yX7_readsCompared, cX7_readsCompared, 2, (some FieldType.boolean))
theorem ci_X7_readsCompared : CodeIn m_X7_readsCompared := q1512
theorem pf_X7_readsCompared : plainFor m_X7_readsCompared.1 = true := plainFor_of_name (by decide)
abbrev m_X7_endsPiece : Mth := (yX7_endsPiece, cX7_endsPiece, 1, none)
theorem ci_X7_endsPiece : CodeIn m_X7_endsPiece := q1516
theorem pf_X7_endsPiece : plainFor m_X7_endsPiece.1 = true := plainFor_of_name (by decide)
abbrev m_X7_lands : Mth := (yX7_lands, cX7_lands, 3, none)
theorem ci_X7_lands : CodeIn m_X7_lands := q1520
theorem pf_X7_lands : plainFor m_X7_lands.1 = true := plainFor_of_name (by decide)
abbrev m_X7_jumps : Mth := (yX7_jumps, cX7_jumps, 2, none)
theorem ci_X7_jumps : CodeIn m_X7_jumps := q1524
theorem pf_X7_jumps : plainFor m_X7_jumps.1 = true := plainFor_of_name (by decide)
abbrev m_X7_takes : Mth := (yX7_takes, cX7_takes, 2, (some FieldType.boolean))
theorem ci_X7_takes : CodeIn m_X7_takes := q1528
theorem pf_X7_takes : plainFor m_X7_takes.1 = true := plainFor_of_name (by decide)
abbrev m_X7_edge : Mth := (yX7_edge, cX7_edge, 6, (some FieldType.int))
theorem ci_X7_edge : CodeIn m_X7_edge := q1532
theorem pf_X7_edge : plainFor m_X7_edge.1 = true := plainFor_of_name (by decide)
abbrev m_X7_readsHeight : Mth := (yX7_readsHeight, cX7_readsHeight, 6, (some FieldType.boolean))
theorem ci_X7_readsHeight : CodeIn m_X7_readsHeight := q1536
theorem pf_X7_readsHeight : plainFor m_X7_readsHeight.1 = true := plainFor_of_name (by decide)
abbrev m_X7_size : Mth := (yX7_size, cX7_size, 1, (some FieldType.int))
theorem ci_X7_size : CodeIn m_X7_size := q1539
theorem pf_X7_size : plainFor m_X7_size.1 = true := plainFor_of_name (by decide)
abbrev m_X7_journey : Mth := (yX7_journey, cX7_journey, 5, (some FieldType.int))
theorem ci_X7_journey : CodeIn m_X7_journey := q1543
theorem pf_X7_journey : plainFor m_X7_journey.1 = true := plainFor_of_name (by decide)
abbrev m_X7_readsStop : Mth := (yX7_readsStop, cX7_readsStop, 4, (some FieldType.boolean))
theorem ci_X7_readsStop : CodeIn m_X7_readsStop := q1547
theorem pf_X7_readsStop : plainFor m_X7_readsStop.1 = true := plainFor_of_name (by decide)
abbrev m_X7_days : Mth := (yX7_days, cX7_days, 2, (some FieldType.int))
theorem ci_X7_days : CodeIn m_X7_days := q1551
theorem pf_X7_days : plainFor m_X7_days.1 = true := plainFor_of_name (by decide)
abbrev m_X7_daysGo : Mth := (yX7_daysGo, cX7_daysGo, 5, none)
theorem ci_X7_daysGo : CodeIn m_X7_daysGo := q1555
theorem pf_X7_daysGo : plainFor m_X7_daysGo.1 = true := plainFor_of_name (by decide)
abbrev m_X7_travels : Mth := (yX7_travels, cX7_travels, 2, none)
theorem ci_X7_travels : CodeIn m_X7_travels := q1559
theorem pf_X7_travels : plainFor m_X7_travels.1 = true := plainFor_of_name (by decide)
abbrev m_X7_triesIn : Mth := (yX7_triesIn, cX7_triesIn, 5, none)
theorem ci_X7_triesIn : CodeIn m_X7_triesIn := q1563
theorem pf_X7_triesIn : plainFor m_X7_triesIn.1 = true := plainFor_of_name (by decide)
abbrev m_X7_haveTried : Mth := (yX7_haveTried, cX7_haveTried, 3, none)
theorem ci_X7_haveTried : CodeIn m_X7_haveTried := q1567
theorem pf_X7_haveTried : plainFor m_X7_haveTried.1 = true := plainFor_of_name (by decide)
abbrev m_X7_fit : Mth := (yX7_fit, cX7_fit, 4, (some FieldType.boolean))
theorem ci_X7_fit : CodeIn m_X7_fit := q1571
theorem pf_X7_fit : plainFor m_X7_fit.1 = true := plainFor_of_name (by decide)
abbrev m_X7_slackBy : Mth := (yX7_slackBy, cX7_slackBy, 6, (some FieldType.int))
theorem ci_X7_slackBy : CodeIn m_X7_slackBy := q1575
theorem pf_X7_slackBy : plainFor m_X7_slackBy.1 = true := plainFor_of_name (by decide)
abbrev m_X7_slackOf : Mth := (yX7_slackOf, cX7_slackOf, 5, (some FieldType.int))
theorem ci_X7_slackOf : CodeIn m_X7_slackOf := q1580
theorem pf_X7_slackOf : plainFor m_X7_slackOf.1 = true := plainFor_of_name (by decide)
abbrev m_X7_heightOf : Mth := (yX7_heightOf, cX7_heightOf, 3, (some FieldType.int))
theorem ci_X7_heightOf : CodeIn m_X7_heightOf := q1584
theorem pf_X7_heightOf : plainFor m_X7_heightOf.1 = true := plainFor_of_name (by decide)
abbrev m_X7_max : Mth := (yX7_max, cX7_max, 2, (some FieldType.int))
theorem ci_X7_max : CodeIn m_X7_max := q1587
theorem pf_X7_max : plainFor m_X7_max.1 = true := plainFor_of_name (by decide)
abbrev m_X7_min : Mth := (yX7_min, cX7_min, 2, (some FieldType.int))
theorem ci_X7_min : CodeIn m_X7_min := q1590
theorem pf_X7_min : plainFor m_X7_min.1 = true := plainFor_of_name (by decide)
abbrev m_X7_allowed : Mth := (yX7_allowed, cX7_allowed, 4, (some FieldType.int))
theorem ci_X7_allowed : CodeIn m_X7_allowed := q1594
theorem pf_X7_allowed : plainFor m_X7_allowed.1 = true := plainFor_of_name (by decide)
abbrev m_X7_feels : Mth := (yX7_feels, cX7_feels, 4, none)
theorem ci_X7_feels : CodeIn m_X7_feels := q1598
theorem pf_X7_feels : plainFor m_X7_feels.1 = true := plainFor_of_name (by decide)
abbrev m_X7_bits : Mth := (yX7_bits, cX7_bits, 3, (some FieldType.int))
theorem ci_X7_bits : CodeIn m_X7_bits := q1601
theorem pf_X7_bits : plainFor m_X7_bits.1 = true := plainFor_of_name (by decide)
abbrev m_X7_byLaw : Mth := (yX7_byLaw, cX7_byLaw, 5, (some FieldType.int))
theorem ci_X7_byLaw : CodeIn m_X7_byLaw := q1605
theorem pf_X7_byLaw : plainFor m_X7_byLaw.1 = true := plainFor_of_name (by decide)
abbrev m_X7_comesTo : Mth := (yX7_comesTo, cX7_comesTo, 8, (some FieldType.int))
theorem ci_X7_comesTo : CodeIn m_X7_comesTo := q1609
theorem pf_X7_comesTo : plainFor m_X7_comesTo.1 = true := plainFor_of_name (by decide)
abbrev m_X7_reckon : Mth := (yX7_reckon, cX7_reckon, 3, (some FieldType.int))
theorem ci_X7_reckon : CodeIn m_X7_reckon := q1612
theorem pf_X7_reckon : plainFor m_X7_reckon.1 = true := plainFor_of_name (by decide)
abbrev m_X7_wearsBy : Mth := (yX7_wearsBy, cX7_wearsBy, 3, (some FieldType.int))
theorem ci_X7_wearsBy : CodeIn m_X7_wearsBy := q1616
theorem pf_X7_wearsBy : plainFor m_X7_wearsBy.1 = true := plainFor_of_name (by decide)
abbrev m_X7_wearsAll : Mth := (yX7_wearsAll, cX7_wearsAll, 4, none)
theorem ci_X7_wearsAll : CodeIn m_X7_wearsAll := q1620
theorem pf_X7_wearsAll : plainFor m_X7_wearsAll.1 = true := plainFor_of_name (by decide)
abbrev m_X7_creak : Mth := (yX7_creak, cX7_creak, 4, none)
theorem ci_X7_creak : CodeIn m_X7_creak := q1624
theorem pf_X7_creak : plainFor m_X7_creak.1 = true := plainFor_of_name (by decide)
abbrev m_X7_draws : Mth := (yX7_draws, cX7_draws, 1, (some FieldType.int))
theorem ci_X7_draws : CodeIn m_X7_draws := q1628
theorem pf_X7_draws : plainFor m_X7_draws.1 = true := plainFor_of_name (by decide)
abbrev m_X7_tried : Mth := (yX7_tried, cX7_tried, 5, (some FieldType.int))
theorem ci_X7_tried : CodeIn m_X7_tried := q1633
theorem pf_X7_tried : plainFor m_X7_tried.1 = true := plainFor_of_name (by decide)
abbrev m_X7_copiesRow : Mth := (yX7_copiesRow, cX7_copiesRow, 3, none)
theorem ci_X7_copiesRow : CodeIn m_X7_copiesRow := q1636
theorem pf_X7_copiesRow : plainFor m_X7_copiesRow.1 = true := plainFor_of_name (by decide)
abbrev m_X7_wedTwos : Mth := (yX7_wedTwos, cX7_wedTwos, 3, (some FieldType.int))
theorem ci_X7_wedTwos : CodeIn m_X7_wedTwos := q1640
theorem pf_X7_wedTwos : plainFor m_X7_wedTwos.1 = true := plainFor_of_name (by decide)
abbrev m_X7_personIs : Mth := (yX7_personIs, cX7_personIs, 3, (some FieldType.int))
theorem ci_X7_personIs : CodeIn m_X7_personIs := q1644
theorem pf_X7_personIs : plainFor m_X7_personIs.1 = true := plainFor_of_name (by decide)
abbrev m_X7_fitting : Mth := (yX7_fitting, cX7_fitting, 4, (some FieldType.int))
theorem ci_X7_fitting : CodeIn m_X7_fitting := q1648
theorem pf_X7_fitting : plainFor m_X7_fitting.1 = true := plainFor_of_name (by decide)
abbrev m_X7_piece : Mth := (yX7_piece, cX7_piece, 4, (some FieldType.int))
theorem ci_X7_piece : CodeIn m_X7_piece := q1652
theorem pf_X7_piece : plainFor m_X7_piece.1 = true := plainFor_of_name (by decide)
abbrev m_X7_slack : Mth := (yX7_slack, cX7_slack, 5, (some FieldType.int))
theorem ci_X7_slack : CodeIn m_X7_slack := q1656
theorem pf_X7_slack : plainFor m_X7_slack.1 = true := plainFor_of_name (by decide)
abbrev m_X7_likes : Mth := (yX7_likes, cX7_likes, 3, (some FieldType.int))
theorem ci_X7_likes : CodeIn m_X7_likes := q1660
theorem pf_X7_likes : plainFor m_X7_likes.1 = true := plainFor_of_name (by decide)
abbrev m_X7_locks : Mth := (yX7_locks, cX7_locks, 7, (some FieldType.int))
theorem ci_X7_locks : CodeIn m_X7_locks := q1664
theorem pf_X7_locks : plainFor m_X7_locks.1 = true := plainFor_of_name (by decide)
abbrev m_X7_laysFits : Mth := (yX7_laysFits, cX7_laysFits, 4, none)
theorem ci_X7_laysFits : CodeIn m_X7_laysFits := q1668
theorem pf_X7_laysFits : plainFor m_X7_laysFits.1 = true := plainFor_of_name (by decide)
abbrev m_X7_most : Mth := (yX7_most, cX7_most, 3, (some FieldType.int))
theorem ci_X7_most : CodeIn m_X7_most := q1672
theorem pf_X7_most : plainFor m_X7_most.1 = true := plainFor_of_name (by decide)
abbrev m_X7_isOne : Mth := (yX7_isOne, cX7_isOne, 3, (some FieldType.boolean))
theorem ci_X7_isOne : CodeIn m_X7_isOne := q1676
theorem pf_X7_isOne : plainFor m_X7_isOne.1 = true := plainFor_of_name (by decide)
abbrev m_X7_laysMost : Mth := (yX7_laysMost, cX7_laysMost, 5, none)
theorem ci_X7_laysMost : CodeIn m_X7_laysMost := q1680
theorem pf_X7_laysMost : plainFor m_X7_laysMost.1 = true := plainFor_of_name (by decide)
abbrev m_X7_mayGet : Mth := (yX7_mayGet, cX7_mayGet, 4, (some FieldType.boolean))
theorem ci_X7_mayGet : CodeIn m_X7_mayGet := q1685
theorem pf_X7_mayGet : plainFor m_X7_mayGet.1 = true := plainFor_of_name (by decide)
abbrev m_X7_getsBy : Mth := (yX7_getsBy, cX7_getsBy, 6, (some FieldType.int))
theorem ci_X7_getsBy : CodeIn m_X7_getsBy := q1689
theorem pf_X7_getsBy : plainFor m_X7_getsBy.1 = true := plainFor_of_name (by decide)
abbrev m_X7_stable : Mth := (yX7_stable, cX7_stable, 4, (some FieldType.int))
theorem ci_X7_stable : CodeIn m_X7_stable := q1693
theorem pf_X7_stable : plainFor m_X7_stable.1 = true := plainFor_of_name (by decide)
abbrev m_X7_laysStable : Mth := (yX7_laysStable, cX7_laysStable, 4, none)
theorem ci_X7_laysStable : CodeIn m_X7_laysStable := q1697
theorem pf_X7_laysStable : plainFor m_X7_laysStable.1 = true := plainFor_of_name (by decide)
abbrev m_X7_nextAsked : Mth := (yX7_nextAsked, cX7_nextAsked, 4, (some FieldType.int))
theorem ci_X7_nextAsked : CodeIn m_X7_nextAsked := q1701
theorem pf_X7_nextAsked : plainFor m_X7_nextAsked.1 = true := plainFor_of_name (by decide)
abbrev m_X7_keeps : Mth := (yX7_keeps, cX7_keeps, 5, (some FieldType.boolean))
theorem ci_X7_keeps : CodeIn m_X7_keeps := q1705
theorem pf_X7_keeps : plainFor m_X7_keeps.1 = true := plainFor_of_name (by decide)
abbrev m_X7_unrest : Mth := (yX7_unrest, cX7_unrest, 6, (some FieldType.int))
theorem ci_X7_unrest : CodeIn m_X7_unrest := q1709
theorem pf_X7_unrest : plainFor m_X7_unrest.1 = true := plainFor_of_name (by decide)
abbrev m_X7_likesWed : Mth := (yX7_likesWed, cX7_likesWed, 2, (some FieldType.int))
theorem ci_X7_likesWed : CodeIn m_X7_likesWed := q1713
theorem pf_X7_likesWed : plainFor m_X7_likesWed.1 = true := plainFor_of_name (by decide)
abbrev m_X7_search : Mth := (yX7_search, cX7_search, 8, (some FieldType.int))
theorem ci_X7_search : CodeIn m_X7_search := q1717
theorem pf_X7_search : plainFor m_X7_search.1 = true := plainFor_of_name (by decide)
abbrev m_X7_areBounds : Mth := (yX7_areBounds, cX7_areBounds, 5, (some FieldType.boolean))
theorem ci_X7_areBounds : CodeIn m_X7_areBounds := q1721
theorem pf_X7_areBounds : plainFor m_X7_areBounds.1 = true := plainFor_of_name (by decide)
abbrev m_X7_readsRow : Mth := (yX7_readsRow, cX7_readsRow, 6, (some FieldType.boolean))
theorem ci_X7_readsRow : CodeIn m_X7_readsRow := q1725
theorem pf_X7_readsRow : plainFor m_X7_readsRow.1 = true := plainFor_of_name (by decide)
abbrev m_X7_sumBy : Mth := (yX7_sumBy, cX7_sumBy, 5, (some FieldType.int))
theorem ci_X7_sumBy : CodeIn m_X7_sumBy := q1729
theorem pf_X7_sumBy : plainFor m_X7_sumBy.1 = true := plainFor_of_name (by decide)
abbrev m_X7_gcd : Mth := (yX7_gcd, cX7_gcd, 5, (some FieldType.int))
theorem ci_X7_gcd : CodeIn m_X7_gcd := q1732
theorem pf_X7_gcd : plainFor m_X7_gcd.1 = true := plainFor_of_name (by decide)
abbrev m_X7_sanding : Mth := (yX7_sanding, cX7_sanding, 13, (some FieldType.int))
theorem ci_X7_sanding : CodeIn m_X7_sanding := q1736
theorem pf_X7_sanding : plainFor m_X7_sanding.1 = true := plainFor_of_name (by decide)
abbrev m_X7_laysWork : Mth := (yX7_laysWork, cX7_laysWork, 7, none)
theorem ci_X7_laysWork : CodeIn m_X7_laysWork := q1740
theorem pf_X7_laysWork : plainFor m_X7_laysWork.1 = true := plainFor_of_name (by decide)
abbrev m_X7_workBy : Mth := (yX7_workBy, cX7_workBy, 8, (some FieldType.int))
theorem ci_X7_workBy : CodeIn m_X7_workBy := q1744
theorem pf_X7_workBy : plainFor m_X7_workBy.1 = true := plainFor_of_name (by decide)
abbrev m_X7_workAt : Mth := (yX7_workAt, cX7_workAt, 4, (some FieldType.int))
theorem ci_X7_workAt : CodeIn m_X7_workAt := q1748
theorem pf_X7_workAt : plainFor m_X7_workAt.1 = true := plainFor_of_name (by decide)
abbrev m_X7_laysSanded : Mth := (yX7_laysSanded, cX7_laysSanded, 7, none)
theorem ci_X7_laysSanded : CodeIn m_X7_laysSanded := q1752
theorem pf_X7_laysSanded : plainFor m_X7_laysSanded.1 = true := plainFor_of_name (by decide)
abbrev m_X7_slackOfSanded : Mth := (yX7_slackOfSanded, cX7_slackOfSanded, 4, (some FieldType.int))
theorem ci_X7_slackOfSanded : CodeIn m_X7_slackOfSanded := q1756
theorem pf_X7_slackOfSanded : plainFor m_X7_slackOfSanded.1 = true := plainFor_of_name (by decide)
abbrev m_X7_steaming : Mth := (yX7_steaming, cX7_steaming, 9, (some FieldType.int))
theorem ci_X7_steaming : CodeIn m_X7_steaming := q1760
theorem pf_X7_steaming : plainFor m_X7_steaming.1 = true := plainFor_of_name (by decide)
abbrev m_X7_slackSteamed : Mth := (yX7_slackSteamed, cX7_slackSteamed, 8, (some FieldType.int))
theorem ci_X7_slackSteamed : CodeIn m_X7_slackSteamed := q1764
theorem pf_X7_slackSteamed : plainFor m_X7_slackSteamed.1 = true := plainFor_of_name (by decide)
abbrev m_X7_worn : Mth := (yX7_worn, cX7_worn, 8, (some FieldType.int))
theorem ci_X7_worn : CodeIn m_X7_worn := q1768
theorem pf_X7_worn : plainFor m_X7_worn.1 = true := plainFor_of_name (by decide)
abbrev m_X7_cutter : Mth := (yX7_cutter, cX7_cutter, 6, (some FieldType.int))
theorem ci_X7_cutter : CodeIn m_X7_cutter := q1772
theorem pf_X7_cutter : plainFor m_X7_cutter.1 = true := plainFor_of_name (by decide)
abbrev m_X7_makesAll : Mth := (yX7_makesAll, cX7_makesAll, 4, (some FieldType.boolean))
theorem ci_X7_makesAll : CodeIn m_X7_makesAll := q1776
theorem pf_X7_makesAll : plainFor m_X7_makesAll.1 = true := plainFor_of_name (by decide)
abbrev m_X7_makes : Mth := (yX7_makes, cX7_makes, 8, (some FieldType.boolean))
theorem ci_X7_makes : CodeIn m_X7_makes := q1780
theorem pf_X7_makes : plainFor m_X7_makes.1 = true := plainFor_of_name (by decide)
abbrev m_X7_copies : Mth := (yX7_copies, cX7_copies, 6, (some FieldType.int))
theorem ci_X7_copies : CodeIn m_X7_copies := q1784
theorem pf_X7_copies : plainFor m_X7_copies.1 = true := plainFor_of_name (by decide)
abbrev m_X7_areSame : Mth := (yX7_areSame, cX7_areSame, 4, (some FieldType.boolean))
theorem ci_X7_areSame : CodeIn m_X7_areSame := q1788
theorem pf_X7_areSame : plainFor m_X7_areSame.1 = true := plainFor_of_name (by decide)
abbrev m_X7_mate : Mth := (yX7_mate, cX7_mate, 3, (some FieldType.int))
theorem ci_X7_mate : CodeIn m_X7_mate := q1792
theorem pf_X7_mate : plainFor m_X7_mate.1 = true := plainFor_of_name (by decide)
abbrev m_X7_seed : Mth := (yX7_seed, cX7_seed, 2, (some FieldType.boolean))
theorem ci_X7_seed : CodeIn m_X7_seed := q1796
theorem pf_X7_seed : plainFor m_X7_seed.1 = true := plainFor_of_name (by decide)
abbrev m_X7_keep : Mth := (yX7_keep, cX7_keep, 1, (some FieldType.int))
theorem ci_X7_keep : CodeIn m_X7_keep := q1801
theorem pf_X7_keep : plainFor m_X7_keep.1 = true := plainFor_of_name (by decide)
abbrev m_X7_undo : Mth := (yX7_undo, cX7_undo, 1, (some FieldType.boolean))
theorem ci_X7_undo : CodeIn m_X7_undo := q1805
theorem pf_X7_undo : plainFor m_X7_undo.1 = true := plainFor_of_name (by decide)
abbrev m_X7_check : Mth := (yX7_check, cX7_check, 4, (some FieldType.int))
theorem ci_X7_check : CodeIn m_X7_check := q1809
theorem pf_X7_check : plainFor m_X7_check.1 = true := plainFor_of_name (by decide)
abbrev m_X7_count : Mth := (yX7_count, cX7_count, 4, (some FieldType.int))
theorem ci_X7_count : CodeIn m_X7_count := q1813
theorem pf_X7_count : plainFor m_X7_count.1 = true := plainFor_of_name (by decide)
abbrev m_X8_init : Mth := (yX8_init, cX8_init, 3, none)
theorem ci_X8_init : CodeIn m_X8_init := q456
theorem pf_X8_init : plainFor m_X8_init.1 = true := plainFor_of_name (by decide)
abbrev m_X8_read : Mth := (yX8_read, cX8_read, 2, (some FieldType.int))
theorem ci_X8_read : CodeIn m_X8_read := q486
theorem pf_X8_read : plainFor m_X8_read.1 = true := plainFor_of_name (by decide)
abbrev m_X8_isGood : Mth := (yX8_isGood, cX8_isGood, 1, (some FieldType.boolean))
theorem ci_X8_isGood : CodeIn m_X8_isGood := q490
theorem pf_X8_isGood : plainFor m_X8_isGood.1 = true := plainFor_of_name (by decide)
abbrev m_X8_clause : Mth := (yX8_clause, cX8_clause, 4, none)
theorem ci_X8_clause : CodeIn m_X8_clause := q494
theorem pf_X8_clause : plainFor m_X8_clause.1 = true := plainFor_of_name (by decide)
abbrev m_X8_here : Mth := (yX8_here, cX8_here, 1, (some FieldType.int))
theorem ci_X8_here : CodeIn m_X8_here := q498
theorem pf_X8_here : plainFor m_X8_here.1 = true := plainFor_of_name (by decide)
abbrev m_X8_bad : Mth := (yX8_bad, cX8_bad, 3, none)
theorem ci_X8_bad : CodeIn m_X8_bad := q589
theorem pf_X8_bad : plainFor m_X8_bad.1 = true := plainFor_of_name (by decide)
abbrev m_X8_sum : Mth := (yX8_sum, cX8_sum, 4, (some (FieldType.object "PuzzleWed$Sum")))
theorem ci_X8_sum : CodeIn m_X8_sum := q593
theorem pf_X8_sum : plainFor m_X8_sum.1 = true := plainFor_of_name (by decide)
abbrev m_X8_product : Mth := (yX8_product, cX8_product, 4, (some (FieldType.object "PuzzleWed$Sum")))
theorem ci_X8_product : CodeIn m_X8_product := q599
theorem pf_X8_product : plainFor m_X8_product.1 = true := plainFor_of_name (by decide)
abbrev m_X8_factor : Mth := (yX8_factor, cX8_factor, 3, (some (FieldType.object "PuzzleWed$Sum")))
theorem ci_X8_factor : CodeIn m_X8_factor := q603
theorem pf_X8_factor : plainFor m_X8_factor.1 = true := plainFor_of_name (by decide)
abbrev m_X8_opens : Mth := (yX8_opens, cX8_opens, 1, none)
theorem ci_X8_opens : CodeIn m_X8_opens := q607
theorem pf_X8_opens : plainFor m_X8_opens.1 = true := plainFor_of_name (by decide)
abbrev m_X8_must : Mth := (yX8_must, cX8_must, 2, none)
theorem ci_X8_must : CodeIn m_X8_must := q611
theorem pf_X8_must : plainFor m_X8_must.1 = true := plainFor_of_name (by decide)
abbrev m_X8_seesDigit : Mth := (yX8_seesDigit, cX8_seesDigit, 1, (some FieldType.boolean))
theorem ci_X8_seesDigit : CodeIn m_X8_seesDigit := q615
theorem pf_X8_seesDigit : plainFor m_X8_seesDigit.1 = true := plainFor_of_name (by decide)
abbrev m_X8_number : Mth := (yX8_number, cX8_number, 3, (some FieldType.int))
theorem ci_X8_number : CodeIn m_X8_number := q621
theorem pf_X8_number : plainFor m_X8_number.1 = true := plainFor_of_name (by decide)
abbrev m_X8_condition : Mth := (yX8_condition, cX8_condition, 3, (some (FieldType.object "PuzzleWed$Condition")))
theorem ci_X8_condition : CodeIn m_X8_condition := q662
theorem pf_X8_condition : plainFor m_X8_condition.1 = true := plainFor_of_name (by decide)
abbrev m_X8_pieces : Mth := (yX8_pieces, cX8_pieces, 3, (some (FieldType.object "PuzzleWed$Condition")))
theorem ci_X8_pieces : CodeIn m_X8_pieces := q668
theorem pf_X8_pieces : plainFor m_X8_pieces.1 = true := plainFor_of_name (by decide)
abbrev m_X8_piece : Mth := (yX8_piece, cX8_piece, 4, (some (FieldType.object "PuzzleWed$Condition")))
theorem ci_X8_piece : CodeIn m_X8_piece := q672
theorem pf_X8_piece : plainFor m_X8_piece.1 = true := plainFor_of_name (by decide)
abbrev m_X9_init : Mth := (yX9_init, cX9_init, 1, none)
theorem ci_X9_init : CodeIn m_X9_init := q627
theorem pf_X9_init : plainFor m_X9_init.1 = true := plainFor_of_name (by decide)
abbrev m_X9_told : Mth := (yX9_told, cX9_told, 3, (some FieldType.int))
theorem ci_X9_told : CodeIn m_X9_told := q1021
theorem pf_X9_told : plainFor m_X9_told.1 = true := plainFor_of_name (by decide)
abbrev m_L_law : Mth := (x, code, maxLocals, ret)
theorem gfa_X0_26_0 : FieldAt RX0 26 0 0 := ⟨go_0, by decide, Or.inl q330⟩
theorem gfa_X0_33_0 : FieldAt RX0 33 0 1 := ⟨go_0, by decide, Or.inl q332⟩
theorem gfa_X0_37_0 : FieldAt RX0 37 0 2 := ⟨go_0, by decide, Or.inl q333⟩
theorem gfa_X0_40_0 : FieldAt RX0 40 0 3 := ⟨go_0, by decide, Or.inl q334⟩
theorem gfa_X0_43_0 : FieldAt RX0 43 0 4 := ⟨go_0, by decide, Or.inl q337⟩
theorem gfa_X0_50_0 : FieldAt RX0 50 0 5 := ⟨go_0, by decide, Or.inl q339⟩
theorem gfa_X0_149_0 : FieldAt RX0 149 0 6 := ⟨go_0, by decide, Or.inl q340⟩
theorem gfa_X0_326_0 : FieldAt RX0 326 0 7 := ⟨go_0, by decide, Or.inl q341⟩
theorem gfa_X0_56_0 : FieldAt RX0 56 0 8 := ⟨go_0, by decide, Or.inl q342⟩
theorem gfa_X0_59_0 : FieldAt RX0 59 0 9 := ⟨go_0, by decide, Or.inl q343⟩
theorem gfa_X0_62_0 : FieldAt RX0 62 0 10 := ⟨go_0, by decide, Or.inl q344⟩
theorem gfa_X0_66_0 : FieldAt RX0 66 0 11 := ⟨go_0, by decide, Or.inl q345⟩
theorem gfa_X0_69_0 : FieldAt RX0 69 0 12 := ⟨go_0, by decide, Or.inl q346⟩
theorem gfa_X0_72_0 : FieldAt RX0 72 0 13 := ⟨go_0, by decide, Or.inl q347⟩
theorem gfa_X0_75_0 : FieldAt RX0 75 0 14 := ⟨go_0, by decide, Or.inl q348⟩
theorem gfa_X0_268_0 : FieldAt RX0 268 0 15 := ⟨go_0, by decide, Or.inl q349⟩
theorem gfa_X0_80_0 : FieldAt RX0 80 0 16 := ⟨go_0, by decide, Or.inl q350⟩
theorem gfa_X0_86_0 : FieldAt RX0 86 0 17 := ⟨go_0, by decide, Or.inl q351⟩
theorem gfa_X10_7_10 : FieldAt RX10 7 10 0 := ⟨go_10, by decide, Or.inl q648⟩
theorem gfa_X10_13_10 : FieldAt RX10 13 10 1 := ⟨go_10, by decide, Or.inl q649⟩
theorem gfa_X10_27_10 : FieldAt RX10 27 10 2 := ⟨go_10, by decide, Or.inl q650⟩
theorem gfa_X11_7_11 : FieldAt RX11 7 11 0 := ⟨go_11, by decide, Or.inl q629⟩
theorem gfa_X12_7_12 : FieldAt RX12 7 12 0 := ⟨go_12, by decide, Or.inl q640⟩
theorem gfa_X14_7_14 : FieldAt RX14 7 14 0 := ⟨go_14, by decide, Or.inl q706⟩
theorem gfa_X14_13_14 : FieldAt RX14 13 14 1 := ⟨go_14, by decide, Or.inl q707⟩
theorem gfa_X14_21_14 : FieldAt RX14 21 14 2 := ⟨go_14, by decide, Or.inl q708⟩
theorem gfa_X15_7_15 : FieldAt RX15 7 15 0 := ⟨go_15, by decide, Or.inl q682⟩
theorem gfa_X16_7_16 : FieldAt RX16 7 16 0 := ⟨go_16, by decide, Or.inl q692⟩
theorem gfa_X16_17_16 : FieldAt RX16 17 16 1 := ⟨go_16, by decide, Or.inl q693⟩
theorem gfa_X16_13_16 : FieldAt RX16 13 16 2 := ⟨go_16, by decide, Or.inl q694⟩
theorem gfa_X17_13_18 : FieldAt RX17 13 18 0 := ⟨go_18, by decide, Or.inl q734⟩
theorem gfa_X17_13_19 : FieldAt RX17 13 19 0 := ⟨go_19, by decide, Or.inl q734⟩
theorem gfa_X17_17_18 : FieldAt RX17 17 18 1 := ⟨go_18, by decide, Or.inl q735⟩
theorem gfa_X17_17_19 : FieldAt RX17 17 19 1 := ⟨go_19, by decide, Or.inl q735⟩
theorem gfa_X17_26_18 : FieldAt RX17 26 18 2 := ⟨go_18, by decide, Or.inl q736⟩
theorem gfa_X17_26_19 : FieldAt RX17 26 19 2 := ⟨go_19, by decide, Or.inl q736⟩
theorem gfa_X17_29_18 : FieldAt RX17 29 18 3 := ⟨go_18, by decide, Or.inl q737⟩
theorem gfa_X17_29_19 : FieldAt RX17 29 19 3 := ⟨go_19, by decide, Or.inl q737⟩
theorem gfa_X17_1_18 : FieldAt RX17 1 18 4 := ⟨go_18, by decide, Or.inl q738⟩
theorem gfa_X17_1_19 : FieldAt RX17 1 19 4 := ⟨go_19, by decide, Or.inl q738⟩
theorem gfa_X18_15_18 : FieldAt RX18 15 18 5 := ⟨go_18, by decide, Or.inl q730⟩
theorem gfa_X18_46_18 : FieldAt RX18 46 18 6 := ⟨go_18, by decide, Or.inl q732⟩
theorem gfa_X19_15_19 : FieldAt RX19 15 19 5 := ⟨go_19, by decide, Or.inl q872⟩
theorem gfa_X19_31_19 : FieldAt RX19 31 19 6 := ⟨go_19, by decide, Or.inl q874⟩
theorem gfa_X19_50_19 : FieldAt RX19 50 19 7 := ⟨go_19, by decide, Or.inl q875⟩
theorem gfa_X2_13_2 : FieldAt RX2 13 2 1 := ⟨go_2, by decide, Or.inl q152⟩
theorem gfa_X2_17_2 : FieldAt RX2 17 2 2 := ⟨go_2, by decide, Or.inl q153⟩
theorem gfa_X2_21_2 : FieldAt RX2 21 2 3 := ⟨go_2, by decide, Or.inl q154⟩
theorem gfa_X2_24_2 : FieldAt RX2 24 2 4 := ⟨go_2, by decide, Or.inl q155⟩
theorem gfa_X2_1_2 : FieldAt RX2 1 2 5 := ⟨go_2, by decide, Or.inl q156⟩
theorem gfa_X3_17_3 : FieldAt RX3 17 3 0 := ⟨go_3, by decide, Or.inl q261⟩
theorem gfa_X3_23_3 : FieldAt RX3 23 3 1 := ⟨go_3, by decide, Or.inl q264⟩
theorem gfa_X3_40_3 : FieldAt RX3 40 3 2 := ⟨go_3, by decide, Or.inl q266⟩
theorem gfa_X3_43_3 : FieldAt RX3 43 3 3 := ⟨go_3, by decide, Or.inl q269⟩
theorem gfa_X3_107_3 : FieldAt RX3 107 3 4 := ⟨go_3, by decide, Or.inl q271⟩
theorem gfa_X3_95_3 : FieldAt RX3 95 3 5 := ⟨go_3, by decide, Or.inl q273⟩
theorem gfa_X3_143_3 : FieldAt RX3 143 3 6 := ⟨go_3, by decide, Or.inl q275⟩
theorem gfa_X3_3_3 : FieldAt RX3 3 3 7 := ⟨go_3, by decide, Or.inl q277⟩
theorem gfa_X4_9_4 : FieldAt RX4 9 4 0 := ⟨go_4, by decide, Or.inl q188⟩
theorem gfa_X4_19_4 : FieldAt RX4 19 4 1 := ⟨go_4, by decide, Or.inl q191⟩
theorem gfa_X4_22_4 : FieldAt RX4 22 4 2 := ⟨go_4, by decide, Or.inl q195⟩
theorem gfa_X4_25_4 : FieldAt RX4 25 4 3 := ⟨go_4, by decide, Or.inl q199⟩
theorem gfa_X4_28_4 : FieldAt RX4 28 4 4 := ⟨go_4, by decide, Or.inl q202⟩
theorem gfa_X4_31_4 : FieldAt RX4 31 4 5 := ⟨go_4, by decide, Or.inl q206⟩
theorem gfa_X4_34_4 : FieldAt RX4 34 4 6 := ⟨go_4, by decide, Or.inl q209⟩
theorem gfa_X4_15_4 : FieldAt RX4 15 4 7 := ⟨go_4, by decide, Or.inl q212⟩
theorem gfa_X4_37_4 : FieldAt RX4 37 4 8 := ⟨go_4, by decide, Or.inl q215⟩
theorem gfa_X4_41_4 : FieldAt RX4 41 4 9 := ⟨go_4, by decide, Or.inl q217⟩
theorem gfa_X5_9_5 : FieldAt RX5 9 5 0 := ⟨go_5, by decide, Or.inl q247⟩
theorem gfa_X5_15_5 : FieldAt RX5 15 5 1 := ⟨go_5, by decide, Or.inl q249⟩
theorem gfa_X5_19_5 : FieldAt RX5 19 5 2 := ⟨go_5, by decide, Or.inl q252⟩
theorem gfa_X6_9_6 : FieldAt RX6 9 6 0 := ⟨go_6, by decide, Or.inl q305⟩
theorem gfa_X6_17_6 : FieldAt RX6 17 6 1 := ⟨go_6, by decide, Or.inl q307⟩
theorem gfa_X6_23_6 : FieldAt RX6 23 6 2 := ⟨go_6, by decide, Or.inl q309⟩
theorem gfa_X6_27_6 : FieldAt RX6 27 6 3 := ⟨go_6, by decide, Or.inl q311⟩
theorem gfa_X7_7_7 : FieldAt RX7 7 7 0 := ⟨go_7, by decide, Or.inl q1248⟩
theorem gfa_X7_13_7 : FieldAt RX7 13 7 1 := ⟨go_7, by decide, Or.inl q1249⟩
theorem gfa_X7_16_7 : FieldAt RX7 16 7 2 := ⟨go_7, by decide, Or.inl q1250⟩
theorem gfa_X7_19_7 : FieldAt RX7 19 7 3 := ⟨go_7, by decide, Or.inl q1251⟩
theorem gfa_X7_126_7 : FieldAt RX7 126 7 4 := ⟨go_7, by decide, Or.inl q1252⟩
theorem gfa_X7_133_7 : FieldAt RX7 133 7 5 := ⟨go_7, by decide, Or.inl q1253⟩
theorem gfa_X7_136_7 : FieldAt RX7 136 7 6 := ⟨go_7, by decide, Or.inl q1254⟩
theorem gfa_X7_143_7 : FieldAt RX7 143 7 7 := ⟨go_7, by decide, Or.inl q1255⟩
theorem gfa_X7_149_7 : FieldAt RX7 149 7 8 := ⟨go_7, by decide, Or.inl q1256⟩
theorem gfa_X7_160_7 : FieldAt RX7 160 7 9 := ⟨go_7, by decide, Or.inl q1257⟩
theorem gfa_X7_156_7 : FieldAt RX7 156 7 10 := ⟨go_7, by decide, Or.inl q1258⟩
theorem gfa_X7_163_7 : FieldAt RX7 163 7 11 := ⟨go_7, by decide, Or.inl q1259⟩
theorem gfa_X7_213_7 : FieldAt RX7 213 7 12 := ⟨go_7, by decide, Or.inl q1260⟩
theorem gfa_X7_225_7 : FieldAt RX7 225 7 13 := ⟨go_7, by decide, Or.inl q1261⟩
theorem gfa_X7_23_7 : FieldAt RX7 23 7 14 := ⟨go_7, by decide, Or.inl q1262⟩
theorem gfa_X7_26_7 : FieldAt RX7 26 7 15 := ⟨go_7, by decide, Or.inl q1263⟩
theorem gfa_X7_29_7 : FieldAt RX7 29 7 16 := ⟨go_7, by decide, Or.inl q1264⟩
theorem gfa_X7_32_7 : FieldAt RX7 32 7 17 := ⟨go_7, by decide, Or.inl q1265⟩
theorem gfa_X7_35_7 : FieldAt RX7 35 7 18 := ⟨go_7, by decide, Or.inl q1266⟩
theorem gfa_X7_38_7 : FieldAt RX7 38 7 19 := ⟨go_7, by decide, Or.inl q1267⟩
theorem gfa_X7_41_7 : FieldAt RX7 41 7 20 := ⟨go_7, by decide, Or.inl q1268⟩
theorem gfa_X7_44_7 : FieldAt RX7 44 7 21 := ⟨go_7, by decide, Or.inl q1269⟩
theorem gfa_X7_47_7 : FieldAt RX7 47 7 22 := ⟨go_7, by decide, Or.inl q1270⟩
theorem gfa_X7_50_7 : FieldAt RX7 50 7 23 := ⟨go_7, by decide, Or.inl q1271⟩
theorem gfa_X7_53_7 : FieldAt RX7 53 7 24 := ⟨go_7, by decide, Or.inl q1272⟩
theorem gfa_X7_56_7 : FieldAt RX7 56 7 25 := ⟨go_7, by decide, Or.inl q1273⟩
theorem gfa_X7_59_7 : FieldAt RX7 59 7 26 := ⟨go_7, by decide, Or.inl q1274⟩
theorem gfa_X7_62_7 : FieldAt RX7 62 7 27 := ⟨go_7, by decide, Or.inl q1275⟩
theorem gfa_X7_65_7 : FieldAt RX7 65 7 28 := ⟨go_7, by decide, Or.inl q1276⟩
theorem gfa_X7_268_7 : FieldAt RX7 268 7 29 := ⟨go_7, by decide, Or.inl q1277⟩
theorem gfa_X7_274_7 : FieldAt RX7 274 7 30 := ⟨go_7, by decide, Or.inl q1278⟩
theorem gfa_X7_289_7 : FieldAt RX7 289 7 31 := ⟨go_7, by decide, Or.inl q1279⟩
theorem gfa_X7_280_7 : FieldAt RX7 280 7 32 := ⟨go_7, by decide, Or.inl q1280⟩
theorem gfa_X7_302_7 : FieldAt RX7 302 7 33 := ⟨go_7, by decide, Or.inl q1281⟩
theorem gfa_X7_68_7 : FieldAt RX7 68 7 34 := ⟨go_7, by decide, Or.inl q1282⟩
theorem gfa_X7_71_7 : FieldAt RX7 71 7 35 := ⟨go_7, by decide, Or.inl q1283⟩
theorem gfa_X7_74_7 : FieldAt RX7 74 7 36 := ⟨go_7, by decide, Or.inl q1284⟩
theorem gfa_X7_78_7 : FieldAt RX7 78 7 37 := ⟨go_7, by decide, Or.inl q1285⟩
theorem gfa_X7_81_7 : FieldAt RX7 81 7 38 := ⟨go_7, by decide, Or.inl q1286⟩
theorem gfa_X7_84_7 : FieldAt RX7 84 7 39 := ⟨go_7, by decide, Or.inl q1287⟩
theorem gfa_X7_87_7 : FieldAt RX7 87 7 40 := ⟨go_7, by decide, Or.inl q1288⟩
theorem gfa_X7_91_7 : FieldAt RX7 91 7 41 := ⟨go_7, by decide, Or.inl q1289⟩
theorem gfa_X7_94_7 : FieldAt RX7 94 7 42 := ⟨go_7, by decide, Or.inl q1290⟩
theorem gfa_X7_379_7 : FieldAt RX7 379 7 43 := ⟨go_7, by decide, Or.inl q1291⟩
theorem gfa_X7_370_7 : FieldAt RX7 370 7 44 := ⟨go_7, by decide, Or.inl q1292⟩
theorem gfa_X7_373_7 : FieldAt RX7 373 7 45 := ⟨go_7, by decide, Or.inl q1293⟩
theorem gfa_X7_408_7 : FieldAt RX7 408 7 46 := ⟨go_7, by decide, Or.inl q1294⟩
theorem gfa_X8_22_8 : FieldAt RX8 22 8 0 := ⟨go_8, by decide, Or.inl q460⟩
theorem gfa_X8_18_8 : FieldAt RX8 18 8 1 := ⟨go_8, by decide, Or.inl q461⟩
theorem gfa_X8_26_8 : FieldAt RX8 26 8 2 := ⟨go_8, by decide, Or.inl q463⟩
theorem gfa_X8_54_8 : FieldAt RX8 54 8 3 := ⟨go_8, by decide, Or.inl q464⟩
theorem gfa_X8_33_8 : FieldAt RX8 33 8 4 := ⟨go_8, by decide, Or.inl q465⟩
theorem gfa_X8_36_8 : FieldAt RX8 36 8 5 := ⟨go_8, by decide, Or.inl q466⟩
theorem gfa_X8_3_8 : FieldAt RX8 3 8 6 := ⟨go_8, by decide, Or.inl q467⟩
theorem gfa_X0_182_4 : FieldAt RX0 182 4 0 := ⟨go_4, by decide, Or.inr ⟨_, q190⟩⟩
theorem gfa_X0_111_4 : FieldAt RX0 111 4 1 := ⟨go_4, by decide, Or.inr ⟨_, q194⟩⟩
theorem gfa_X0_114_4 : FieldAt RX0 114 4 2 := ⟨go_4, by decide, Or.inr ⟨_, q197⟩⟩
theorem gfa_X0_98_4 : FieldAt RX0 98 4 3 := ⟨go_4, by decide, Or.inr ⟨_, q200⟩⟩
theorem gfa_X0_219_4 : FieldAt RX0 219 4 4 := ⟨go_4, by decide, Or.inr ⟨_, q205⟩⟩
theorem gfa_X0_231_4 : FieldAt RX0 231 4 5 := ⟨go_4, by decide, Or.inr ⟨_, q208⟩⟩
theorem gfa_X0_189_4 : FieldAt RX0 189 4 6 := ⟨go_4, by decide, Or.inr ⟨_, q211⟩⟩
theorem gfa_X0_186_4 : FieldAt RX0 186 4 7 := ⟨go_4, by decide, Or.inr ⟨_, q214⟩⟩
theorem gfa_X0_107_4 : FieldAt RX0 107 4 8 := ⟨go_4, by decide, Or.inr ⟨_, q216⟩⟩
theorem gfa_X0_222_4 : FieldAt RX0 222 4 9 := ⟨go_4, by decide, Or.inr ⟨_, q219⟩⟩
theorem gfa_X0_171_5 : FieldAt RX0 171 5 0 := ⟨go_5, by decide, Or.inr ⟨_, q248⟩⟩
theorem gfa_X0_132_5 : FieldAt RX0 132 5 1 := ⟨go_5, by decide, Or.inr ⟨_, q250⟩⟩
theorem gfa_X0_121_5 : FieldAt RX0 121 5 2 := ⟨go_5, by decide, Or.inr ⟨_, q253⟩⟩
theorem gfa_X0_94_3 : FieldAt RX0 94 3 0 := ⟨go_3, by decide, Or.inr ⟨_, q263⟩⟩
theorem gfa_X0_117_3 : FieldAt RX0 117 3 1 := ⟨go_3, by decide, Or.inr ⟨_, q265⟩⟩
theorem gfa_X0_332_3 : FieldAt RX0 332 3 2 := ⟨go_3, by decide, Or.inr ⟨_, q268⟩⟩
theorem gfa_X0_90_3 : FieldAt RX0 90 3 3 := ⟨go_3, by decide, Or.inr ⟨_, q270⟩⟩
theorem gfa_X0_196_3 : FieldAt RX0 196 3 4 := ⟨go_3, by decide, Or.inr ⟨_, q272⟩⟩
theorem gfa_X0_203_3 : FieldAt RX0 203 3 5 := ⟨go_3, by decide, Or.inr ⟨_, q274⟩⟩
theorem gfa_X0_206_3 : FieldAt RX0 206 3 6 := ⟨go_3, by decide, Or.inr ⟨_, q276⟩⟩
theorem gfa_X0_339_6 : FieldAt RX0 339 6 3 := ⟨go_6, by decide, Or.inr ⟨_, q313⟩⟩
theorem gfa_X0_164_8 : FieldAt RX0 164 8 1 := ⟨go_8, by decide, Or.inr ⟨_, q462⟩⟩
theorem gfa_X0_174_18 : FieldAt RX0 174 18 5 := ⟨go_18, by decide, Or.inr ⟨_, q731⟩⟩
theorem gfa_X0_185_19 : FieldAt RX0 185 19 5 := ⟨go_19, by decide, Or.inr ⟨_, q873⟩⟩
theorem gfa_X10_17_2 : FieldAt RX10 17 2 0 := ⟨go_2, by decide, Or.inr ⟨_, q158⟩⟩
theorem gfa_X16_20_2 : FieldAt RX16 20 2 0 := ⟨go_2, by decide, Or.inr ⟨_, q157⟩⟩
theorem gfa_X17_20_0 : FieldAt RX17 20 0 4 := ⟨go_0, by decide, Or.inr ⟨_, q336⟩⟩
theorem gfa_X2_53_4 : FieldAt RX2 53 4 1 := ⟨go_4, by decide, Or.inr ⟨_, q192⟩⟩
theorem gfa_X2_42_4 : FieldAt RX2 42 4 2 := ⟨go_4, by decide, Or.inr ⟨_, q196⟩⟩
theorem gfa_X2_50_4 : FieldAt RX2 50 4 4 := ⟨go_4, by decide, Or.inr ⟨_, q203⟩⟩
theorem gfa_X2_27_3 : FieldAt RX2 27 3 0 := ⟨go_3, by decide, Or.inr ⟨_, q262⟩⟩
theorem gfa_X2_47_3 : FieldAt RX2 47 3 2 := ⟨go_3, by decide, Or.inr ⟨_, q267⟩⟩
theorem gfa_X2_56_0 : FieldAt RX2 56 0 5 := ⟨go_0, by decide, Or.inr ⟨_, q338⟩⟩
theorem gfa_X3_124_4 : FieldAt RX3 124 4 0 := ⟨go_4, by decide, Or.inr ⟨_, q189⟩⟩
theorem gfa_X3_65_4 : FieldAt RX3 65 4 1 := ⟨go_4, by decide, Or.inr ⟨_, q193⟩⟩
theorem gfa_X3_128_4 : FieldAt RX3 128 4 2 := ⟨go_4, by decide, Or.inr ⟨_, q198⟩⟩
theorem gfa_X3_86_4 : FieldAt RX3 86 4 3 := ⟨go_4, by decide, Or.inr ⟨_, q201⟩⟩
theorem gfa_X3_89_4 : FieldAt RX3 89 4 4 := ⟨go_4, by decide, Or.inr ⟨_, q204⟩⟩
theorem gfa_X3_92_4 : FieldAt RX3 92 4 5 := ⟨go_4, by decide, Or.inr ⟨_, q207⟩⟩
theorem gfa_X3_118_4 : FieldAt RX3 118 4 6 := ⟨go_4, by decide, Or.inr ⟨_, q210⟩⟩
theorem gfa_X3_121_4 : FieldAt RX3 121 4 7 := ⟨go_4, by decide, Or.inr ⟨_, q213⟩⟩
theorem gfa_X3_157_4 : FieldAt RX3 157 4 9 := ⟨go_4, by decide, Or.inr ⟨_, q218⟩⟩
theorem gfa_X3_29_5 : FieldAt RX3 29 5 2 := ⟨go_5, by decide, Or.inr ⟨_, q251⟩⟩
theorem gfa_X3_73_0 : FieldAt RX3 73 0 0 := ⟨go_0, by decide, Or.inr ⟨_, q331⟩⟩
theorem gfa_X8_134_6 : FieldAt RX8 134 6 0 := ⟨go_6, by decide, Or.inr ⟨_, q306⟩⟩
theorem gfa_X8_138_6 : FieldAt RX8 138 6 1 := ⟨go_6, by decide, Or.inr ⟨_, q308⟩⟩
theorem gfa_X8_142_6 : FieldAt RX8 142 6 2 := ⟨go_6, by decide, Or.inr ⟨_, q310⟩⟩
theorem gfa_X8_131_6 : FieldAt RX8 131 6 3 := ⟨go_6, by decide, Or.inr ⟨_, q312⟩⟩
theorem gfa_X8_29_0 : FieldAt RX8 29 0 4 := ⟨go_0, by decide, Or.inr ⟨_, q335⟩⟩
theorem gfa_X8_94_10 : FieldAt RX8 94 10 2 := ⟨go_10, by decide, Or.inr ⟨_, q651⟩⟩
theorem gfa_X8_123_14 : FieldAt RX8 123 14 2 := ⟨go_14, by decide, Or.inr ⟨_, q709⟩⟩
theorem gfa_X9_7_2 : FieldAt RX9 7 2 0 := ⟨go_2, by decide, Or.inr ⟨_, q159⟩⟩
theorem gna_X0_21 : NewAt RX0 21 2 6 := ⟨go_2, q143, q144, q110, fun j hj => match j, hj with | 0, _ => rfl | 1, _ => rfl | 2, _ => rfl | 3, _ => rfl | 4, _ => rfl | 5, _ => rfl | n + 6, h => absurd (show n + 6 < 6 from h) (by omega)⟩
theorem gna_X0_30 : NewAt RX0 30 3 8 := ⟨go_3, q173, q174, q111, fun j hj => match j, hj with | 0, _ => rfl | 1, _ => rfl | 2, _ => rfl | 3, _ => rfl | 4, _ => rfl | 5, _ => rfl | 6, _ => rfl | 7, _ => rfl | n + 8, h => absurd (show n + 8 < 8 from h) (by omega)⟩
theorem gna_X0_47 : NewAt RX0 47 6 4 := ⟨go_6, q295, q296, q114, fun j hj => match j, hj with | 0, _ => rfl | 1, _ => rfl | 2, _ => rfl | 3, _ => rfl | n + 4, h => absurd (show n + 4 < 4 from h) (by omega)⟩
theorem gna_X0_83 : NewAt RX0 83 5 3 := ⟨go_5, q328, q242, q113, fun j hj => match j, hj with | 0, _ => rfl | 1, _ => rfl | 2, _ => rfl | n + 3, h => absurd (show n + 3 < 3 from h) (by omega)⟩
theorem gna_X0_155 : NewAt RX0 155 8 7 := ⟨go_8, q452, q453, q116, fun j hj => match j, hj with | 0, _ => rfl | 1, _ => rfl | 2, _ => rfl | 3, _ => rfl | 4, _ => rfl | 5, _ => rfl | 6, _ => rfl | n + 7, h => absurd (show n + 7 < 7 from h) (by omega)⟩
theorem gna_X0_167 : NewAt RX0 167 18 8 := ⟨go_18, q721, q722, q132, fun j hj => match j, hj with | 0, _ => rfl | 1, _ => rfl | 2, _ => rfl | 3, _ => rfl | 4, _ => rfl | 5, _ => rfl | 6, _ => rfl | n + 7, h => absurd (show n + 7 < 7 from h) (by omega)⟩
theorem gna_X0_178 : NewAt RX0 178 19 9 := ⟨go_19, q866, q867, q133, fun j hj => match j, hj with | 0, _ => rfl | 1, _ => rfl | 2, _ => rfl | 3, _ => rfl | 4, _ => rfl | 5, _ => rfl | 6, _ => rfl | 7, _ => rfl | n + 8, h => absurd (show n + 8 < 8 from h) (by omega)⟩
theorem gna_X3_15 : NewAt RX3 15 4 10 := ⟨go_4, q179, q183, q112, fun j hj => match j, hj with | 0, _ => rfl | 1, _ => rfl | 2, _ => rfl | 3, _ => rfl | 4, _ => rfl | 5, _ => rfl | 6, _ => rfl | 7, _ => rfl | 8, _ => rfl | 9, _ => rfl | n + 10, h => absurd (show n + 10 < 10 from h) (by omega)⟩
theorem gna_X3_21 : NewAt RX3 21 5 3 := ⟨go_5, q181, q242, q113, fun j hj => match j, hj with | 0, _ => rfl | 1, _ => rfl | 2, _ => rfl | n + 3, h => absurd (show n + 3 < 3 from h) (by omega)⟩
theorem gna_X8_15 : NewAt RX8 15 6 4 := ⟨go_6, q458, q296, q114, fun j hj => match j, hj with | 0, _ => rfl | 1, _ => rfl | 2, _ => rfl | 3, _ => rfl | n + 4, h => absurd (show n + 4 < 4 from h) (by omega)⟩
theorem gna_X8_86 : NewAt RX8 86 10 3 := ⟨go_10, q594, q595, q124, fun j hj => match j, hj with | 0, _ => rfl | 1, _ => rfl | 2, _ => rfl | n + 3, h => absurd (show n + 3 < 3 from h) (by omega)⟩
theorem gna_X8_68 : NewAt RX8 68 11 1 := ⟨go_11, q616, q617, q125, fun j hj => match j, hj with | 0, _ => rfl | n + 1, h => absurd (show n + 1 < 1 from h) (by omega)⟩
theorem gna_X8_83 : NewAt RX8 83 12 1 := ⟨go_12, q634, q635, q126, fun j hj => match j, hj with | 0, _ => rfl | n + 1, h => absurd (show n + 1 < 1 from h) (by omega)⟩
theorem gna_X8_118 : NewAt RX8 118 14 3 := ⟨go_14, q663, q664, q128, fun j hj => match j, hj with | 0, _ => rfl | 1, _ => rfl | 2, _ => rfl | n + 3, h => absurd (show n + 3 < 3 from h) (by omega)⟩
theorem gna_X8_105 : NewAt RX8 105 15 1 := ⟨go_15, q673, q674, q129, fun j hj => match j, hj with | 0, _ => rfl | n + 1, h => absurd (show n + 1 < 1 from h) (by omega)⟩
theorem gna_X8_113 : NewAt RX8 113 16 3 := ⟨go_16, q686, q687, q130, fun j hj => match j, hj with | 0, _ => rfl | 1, _ => rfl | 2, _ => rfl | n + 3, h => absurd (show n + 3 < 3 from h) (by omega)⟩
theorem gna_L_7 : NewAt R_law 7 0 18 := ⟨go_0, q135, q136, q108, fun j hj => match j, hj with | 0, _ => rfl | 1, _ => rfl | 2, _ => rfl | 3, _ => rfl | 4, _ => rfl | 5, _ => rfl | 6, _ => rfl | 7, _ => rfl | 8, _ => rfl | 9, _ => rfl | 10, _ => rfl | 11, _ => rfl | 12, _ => rfl | 13, _ => rfl | 14, _ => rfl | 15, _ => rfl | 16, _ => rfl | 17, _ => rfl | n + 18, h => absurd (show n + 18 < 18 from h) (by omega)⟩
theorem gna_L_10 : NewAt R_law 10 7 47 := ⟨go_7, q1240, q1241, q115, fun j hj => match j, hj with | 0, _ => rfl | 1, _ => rfl | 2, _ => rfl | 3, _ => rfl | 4, _ => rfl | 5, _ => rfl | 6, _ => rfl | 7, _ => rfl | 8, _ => rfl | 9, _ => rfl | 10, _ => rfl | 11, _ => rfl | 12, _ => rfl | 13, _ => rfl | 14, _ => rfl | 15, _ => rfl | 16, _ => rfl | 17, _ => rfl | 18, _ => rfl | 19, _ => rfl | 20, _ => rfl | 21, _ => rfl | 22, _ => rfl | 23, _ => rfl | 24, _ => rfl | 25, _ => rfl | 26, _ => rfl | 27, _ => rfl | 28, _ => rfl | 29, _ => rfl | 30, _ => rfl | 31, _ => rfl | 32, _ => rfl | 33, _ => rfl | 34, _ => rfl | 35, _ => rfl | 36, _ => rfl | 37, _ => rfl | 38, _ => rfl | 39, _ => rfl | 40, _ => rfl | 41, _ => rfl | 42, _ => rfl | 43, _ => rfl | 44, _ => rfl | 45, _ => rfl | 46, _ => rfl | n + 47, h => absurd (show n + 47 < 47 from h) (by omega)⟩
theorem gsa_J0_637 : StatAt RJ0 637 m_J1_indexOf 4 := ⟨q522, q523, q118, ci_J1_indexOf, ⟨by decide, by decide, by decide +kernel⟩, by decide⟩
theorem gsa_J0_640 : StatAt RJ0 640 m_J3_indexOf 4 := ⟨q537, q538, q120, ci_J3_indexOf, ⟨by decide, by decide, by decide +kernel⟩, by decide⟩
theorem gsa_J0_1062 : StatAt RJ0 1062 m_J4_checkFromToIndex 4 := ⟨q557, q558, q121, ci_J4_checkFromToIndex, ⟨by decide, by decide, by decide +kernel⟩, by decide⟩
theorem gsa_J1_88 : StatAt RJ1 88 m_J1_canEncode 1 := ⟨q525, q526, q118, ci_J1_canEncode, ⟨by decide, by decide, by decide +kernel⟩, by decide⟩
theorem gsa_J1_92 : StatAt RJ1 92 m_J2_max 2 := ⟨q528, q529, q119, ci_J2_max, ⟨by decide, by decide, by decide +kernel⟩, by decide⟩
theorem gsa_J1_38 : StatAt RJ1 38 m_J2_min 2 := ⟨q531, q532, q119, ci_J2_min, ⟨by decide, by decide, by decide +kernel⟩, by decide⟩
theorem gsa_J1_95 : StatAt RJ1 95 m_J1_indexOfChar 4 := ⟨q534, q535, q118, ci_J1_indexOfChar, ⟨by decide, by decide, by decide +kernel⟩, by decide⟩
theorem gsa_J3_224 : StatAt RJ3 224 m_J2_max 2 := ⟨q540, q529, q119, ci_J2_max, ⟨by decide, by decide, by decide +kernel⟩, by decide⟩
theorem gsa_J3_183 : StatAt RJ3 183 m_J2_min 2 := ⟨q541, q532, q119, ci_J2_min, ⟨by decide, by decide, by decide +kernel⟩, by decide⟩
theorem gsa_J3_228 : StatAt RJ3 228 m_J3_indexOfChar 4 := ⟨q543, q544, q120, ci_J3_indexOfChar, ⟨by decide, by decide, by decide +kernel⟩, by decide⟩
theorem gsa_J3_232 : StatAt RJ3 232 m_J3_indexOfSupplementary 4 := ⟨q572, q573, q120, ci_J3_indexOfSupplementary, ⟨by decide, by decide, by decide +kernel⟩, by decide⟩
theorem gsa_J3_96 : StatAt RJ3 96 m_J3_checkBoundsBeginEnd 3 := ⟨q546, q547, q120, ci_J3_checkBoundsBeginEnd, ⟨by decide, by decide, by decide +kernel⟩, by decide⟩
theorem gsa_J3_244 : StatAt RJ3 244 m_J3_indexOfCharUnsafe 4 := ⟨q560, q561, q120, ci_J3_indexOfCharUnsafe, ⟨by decide, by decide, by decide +kernel⟩, by decide⟩
theorem gsa_J3_48 : StatAt RJ3 48 m_J3_length 1 := ⟨q549, q550, q120, ci_J3_length, ⟨by decide, by decide, by decide +kernel⟩, by decide⟩
theorem gsa_J3_241 : StatAt RJ3 241 m_J0_checkBoundsBeginEnd 3 := ⟨q552, q553, q117, ci_J0_checkBoundsBeginEnd, ⟨by decide, by decide, by decide +kernel⟩, by decide⟩
theorem gsa_J3_71 : StatAt RJ3 71 m_J3_getChar 2 := ⟨q563, q564, q120, ci_J3_getChar, ⟨by decide, by decide, by decide +kernel⟩, by decide⟩
theorem gsa_J3_164 : StatAt RJ3 164 m_J5_isValidCodePoint 1 := ⟨q575, q576, q122, ci_J5_isValidCodePoint, ⟨by decide, by decide, by decide +kernel⟩, by decide⟩
theorem gsa_J3_157 : StatAt RJ3 157 m_J5_highSurrogate 1 := ⟨q578, q579, q122, ci_J5_highSurrogate, ⟨by decide, by decide, by decide +kernel⟩, by decide⟩
theorem gsa_J3_161 : StatAt RJ3 161 m_J5_lowSurrogate 1 := ⟨q582, q583, q122, ci_J5_lowSurrogate, ⟨by decide, by decide, by decide +kernel⟩, by decide⟩
theorem gia_L_9 : InitAt R_law 9 m_X0_init 0 := ⟨Or.inl q137, q138, q108, ci_X0_init, rfl, rfl, ⟨by decide, by decide, by decide +kernel⟩, by decide⟩
theorem gia_L_12 : InitAt R_law 12 m_X7_init 0 := ⟨Or.inl q1242, q1243, q115, ci_X7_init, rfl, rfl, ⟨by decide, by decide, by decide +kernel⟩, by decide⟩
theorem gva_L_13_0 : VirtAt R_law 13 0 m_X0_person 3 := ⟨go_0, q389, q390, q391, q108, ci_X0_person, rfl, ⟨by decide, by decide, by decide +kernel⟩, by decide⟩
theorem gva_L_17_7 : VirtAt R_law 17 7 m_X7_person 3 := ⟨go_7, q1390, q1391, q1392, q115, ci_X7_person, rfl, ⟨by decide, by decide, by decide +kernel⟩, by decide⟩
theorem gva_L_18_0 : VirtAt R_law 18 0 m_X0_wear 2 := ⟨go_0, q396, q397, q398, q108, ci_X0_wear, rfl, ⟨by decide, by decide, by decide +kernel⟩, by decide⟩
theorem gva_L_22_7 : VirtAt R_law 22 7 m_X7_wear 2 := ⟨go_7, q1407, q1408, q1409, q115, ci_X7_wear, rfl, ⟨by decide, by decide, by decide +kernel⟩, by decide⟩
theorem gva_L_23_0 : VirtAt R_law 23 0 m_X0_dies 1 := ⟨go_0, q406, q407, q408, q108, ci_X0_dies, rfl, ⟨by decide, by decide, by decide +kernel⟩, by decide⟩
theorem gva_L_27_7 : VirtAt R_law 27 7 m_X7_dies 1 := ⟨go_7, q1411, q1412, q1413, q115, ci_X7_dies, rfl, ⟨by decide, by decide, by decide +kernel⟩, by decide⟩
theorem gva_L_28_0 : VirtAt R_law 28 0 m_X0_weds 2 := ⟨go_0, q427, q428, q429, q108, ci_X0_weds, rfl, ⟨by decide, by decide, by decide +kernel⟩, by decide⟩
theorem gva_L_31_7 : VirtAt R_law 31 7 m_X7_weds 2 := ⟨go_7, q1423, q1424, q1425, q115, ci_X7_weds, rfl, ⟨by decide, by decide, by decide +kernel⟩, by decide⟩
theorem gva_L_32_0 : VirtAt R_law 32 0 m_X0_feed 5 := ⟨go_0, q440, q441, q442, q108, ci_X0_feed, rfl, ⟨by decide, by decide, by decide +kernel⟩, by decide⟩
theorem gva_L_36_7 : VirtAt R_law 36 7 m_X7_feed 5 := ⟨go_7, q1435, q1436, q1437, q115, ci_X7_feed, rfl, ⟨by decide, by decide, by decide +kernel⟩, by decide⟩
theorem gva_L_37_0 : VirtAt R_law 37 0 m_X0_law 1 := ⟨go_0, q448, q449, q450, q108, ci_X0_law, rfl, ⟨by decide, by decide, by decide +kernel⟩, by decide⟩
theorem gva_L_41_7 : VirtAt R_law 41 7 m_X7_law 1 := ⟨go_7, q1443, q1444, q1445, q115, ci_X7_law, rfl, ⟨by decide, by decide, by decide +kernel⟩, by decide⟩
theorem gva_L_42_0 : VirtAt R_law 42 0 m_X0_edge 2 := ⟨go_0, q717, q718, q719, q108, ci_X0_edge, rfl, ⟨by decide, by decide, by decide +kernel⟩, by decide⟩
theorem gva_L_46_7 : VirtAt R_law 46 7 m_X7_edge 2 := ⟨go_7, q1529, q1530, q1531, q115, ci_X7_edge, rfl, ⟨by decide, by decide, by decide +kernel⟩, by decide⟩
theorem gva_L_47_0 : VirtAt R_law 47 0 m_X0_journey 2 := ⟨go_0, q858, q859, q860, q108, ci_X0_journey, rfl, ⟨by decide, by decide, by decide +kernel⟩, by decide⟩
theorem gva_L_50_7 : VirtAt R_law 50 7 m_X7_journey 2 := ⟨go_7, q1540, q1541, q1542, q115, ci_X7_journey, rfl, ⟨by decide, by decide, by decide +kernel⟩, by decide⟩
theorem gva_L_51_0 : VirtAt R_law 51 0 m_X0_days 1 := ⟨go_0, q901, q902, q903, q108, ci_X0_days, rfl, ⟨by decide, by decide, by decide +kernel⟩, by decide⟩
theorem gva_L_54_7 : VirtAt R_law 54 7 m_X7_days 1 := ⟨go_7, q1548, q1549, q1550, q115, ci_X7_days, rfl, ⟨by decide, by decide, by decide +kernel⟩, by decide⟩
theorem gva_L_55_0 : VirtAt R_law 55 0 m_X0_tried 2 := ⟨go_0, q1043, q1044, q1045, q108, ci_X0_tried, rfl, ⟨by decide, by decide, by decide +kernel⟩, by decide⟩
theorem gva_L_58_7 : VirtAt R_law 58 7 m_X7_tried 2 := ⟨go_7, q1630, q1631, q1632, q115, ci_X7_tried, rfl, ⟨by decide, by decide, by decide +kernel⟩, by decide⟩
theorem gva_L_59_0 : VirtAt R_law 59 0 m_X0_personIs 2 := ⟨go_0, q1066, q1067, q1068, q108, ci_X0_personIs, rfl, ⟨by decide, by decide, by decide +kernel⟩, by decide⟩
theorem gva_L_62_7 : VirtAt R_law 62 7 m_X7_personIs 2 := ⟨go_7, q1641, q1642, q1643, q115, ci_X7_personIs, rfl, ⟨by decide, by decide, by decide +kernel⟩, by decide⟩
theorem gva_L_63_0 : VirtAt R_law 63 0 m_X0_piece 2 := ⟨go_0, q1076, q1077, q1078, q108, ci_X0_piece, rfl, ⟨by decide, by decide, by decide +kernel⟩, by decide⟩
theorem gva_L_66_7 : VirtAt R_law 66 7 m_X7_piece 2 := ⟨go_7, q1649, q1650, q1651, q115, ci_X7_piece, rfl, ⟨by decide, by decide, by decide +kernel⟩, by decide⟩
theorem gva_L_67_0 : VirtAt R_law 67 0 m_X0_slack 3 := ⟨go_0, q1080, q1081, q1082, q108, ci_X0_slack, rfl, ⟨by decide, by decide, by decide +kernel⟩, by decide⟩
theorem gva_L_71_7 : VirtAt R_law 71 7 m_X7_slack 3 := ⟨go_7, q1653, q1654, q1655, q115, ci_X7_slack, rfl, ⟨by decide, by decide, by decide +kernel⟩, by decide⟩
theorem gva_L_72_0 : VirtAt R_law 72 0 m_X0_locks 1 := ⟨go_0, q1089, q1090, q1091, q108, ci_X0_locks, rfl, ⟨by decide, by decide, by decide +kernel⟩, by decide⟩
theorem gva_L_75_7 : VirtAt R_law 75 7 m_X7_locks 1 := ⟨go_7, q1661, q1662, q1663, q115, ci_X7_locks, rfl, ⟨by decide, by decide, by decide +kernel⟩, by decide⟩
theorem gva_L_76_0 : VirtAt R_law 76 0 m_X0_most 1 := ⟨go_0, q1097, q1098, q1099, q108, ci_X0_most, rfl, ⟨by decide, by decide, by decide +kernel⟩, by decide⟩
theorem gva_L_79_7 : VirtAt R_law 79 7 m_X7_most 1 := ⟨go_7, q1669, q1670, q1671, q115, ci_X7_most, rfl, ⟨by decide, by decide, by decide +kernel⟩, by decide⟩
theorem gva_L_80_0 : VirtAt R_law 80 0 m_X0_stable 1 := ⟨go_0, q1114, q1115, q1116, q108, ci_X0_stable, rfl, ⟨by decide, by decide, by decide +kernel⟩, by decide⟩
theorem gva_L_83_7 : VirtAt R_law 83 7 m_X7_stable 1 := ⟨go_7, q1690, q1691, q1692, q115, ci_X7_stable, rfl, ⟨by decide, by decide, by decide +kernel⟩, by decide⟩
theorem gva_L_84_0 : VirtAt R_law 84 0 m_X0_unrest 1 := ⟨go_0, q1130, q1131, q1132, q108, ci_X0_unrest, rfl, ⟨by decide, by decide, by decide +kernel⟩, by decide⟩
theorem gva_L_87_7 : VirtAt R_law 87 7 m_X7_unrest 1 := ⟨go_7, q1706, q1707, q1708, q115, ci_X7_unrest, rfl, ⟨by decide, by decide, by decide +kernel⟩, by decide⟩
theorem gva_L_88_0 : VirtAt R_law 88 0 m_X0_search 2 := ⟨go_0, q1138, q1139, q1140, q108, ci_X0_search, rfl, ⟨by decide, by decide, by decide +kernel⟩, by decide⟩
theorem gva_L_91_7 : VirtAt R_law 91 7 m_X7_search 2 := ⟨go_7, q1714, q1715, q1716, q115, ci_X7_search, rfl, ⟨by decide, by decide, by decide +kernel⟩, by decide⟩
theorem gva_L_92_0 : VirtAt R_law 92 0 m_X0_sanding 7 := ⟨go_0, q1154, q1155, q1156, q108, ci_X0_sanding, rfl, ⟨by decide, by decide, by decide +kernel⟩, by decide⟩
theorem gva_L_96_7 : VirtAt R_law 96 7 m_X7_sanding 7 := ⟨go_7, q1733, q1734, q1735, q115, ci_X7_sanding, rfl, ⟨by decide, by decide, by decide +kernel⟩, by decide⟩
theorem gva_L_97_0 : VirtAt R_law 97 0 m_X0_steaming 4 := ⟨go_0, q1172, q1173, q1174, q108, ci_X0_steaming, rfl, ⟨by decide, by decide, by decide +kernel⟩, by decide⟩
theorem gva_L_101_7 : VirtAt R_law 101 7 m_X7_steaming 4 := ⟨go_7, q1757, q1758, q1759, q115, ci_X7_steaming, rfl, ⟨by decide, by decide, by decide +kernel⟩, by decide⟩
theorem gva_L_102_0 : VirtAt R_law 102 0 m_X0_worn 2 := ⟨go_0, q1180, q1181, q1182, q108, ci_X0_worn, rfl, ⟨by decide, by decide, by decide +kernel⟩, by decide⟩
theorem gva_L_105_7 : VirtAt R_law 105 7 m_X7_worn 2 := ⟨go_7, q1765, q1766, q1767, q115, ci_X7_worn, rfl, ⟨by decide, by decide, by decide +kernel⟩, by decide⟩
theorem gva_L_106_0 : VirtAt R_law 106 0 m_X0_cutter 2 := ⟨go_0, q1187, q1188, q1189, q108, ci_X0_cutter, rfl, ⟨by decide, by decide, by decide +kernel⟩, by decide⟩
theorem gva_L_109_7 : VirtAt R_law 109 7 m_X7_cutter 2 := ⟨go_7, q1769, q1770, q1771, q115, ci_X7_cutter, rfl, ⟨by decide, by decide, by decide +kernel⟩, by decide⟩
theorem gva_L_110_0 : VirtAt R_law 110 0 m_X0_copies 1 := ⟨go_0, q1199, q1200, q1201, q108, ci_X0_copies, rfl, ⟨by decide, by decide, by decide +kernel⟩, by decide⟩
theorem gva_L_113_7 : VirtAt R_law 113 7 m_X7_copies 1 := ⟨go_7, q1781, q1782, q1783, q115, ci_X7_copies, rfl, ⟨by decide, by decide, by decide +kernel⟩, by decide⟩
theorem gva_L_114_0 : VirtAt R_law 114 0 m_X0_mate 2 := ⟨go_0, q1207, q1208, q1209, q108, ci_X0_mate, rfl, ⟨by decide, by decide, by decide +kernel⟩, by decide⟩
theorem gva_L_117_7 : VirtAt R_law 117 7 m_X7_mate 2 := ⟨go_7, q1789, q1790, q1791, q115, ci_X7_mate, rfl, ⟨by decide, by decide, by decide +kernel⟩, by decide⟩
theorem gva_L_118_0 : VirtAt R_law 118 0 m_X0_seed 1 := ⟨go_0, q1211, q1212, q1213, q108, ci_X0_seed, rfl, ⟨by decide, by decide, by decide +kernel⟩, by decide⟩
theorem gva_L_121_7 : VirtAt R_law 121 7 m_X7_seed 1 := ⟨go_7, q1793, q1794, q1795, q115, ci_X7_seed, rfl, ⟨by decide, by decide, by decide +kernel⟩, by decide⟩
theorem gva_L_122_0 : VirtAt R_law 122 0 m_X0_keep 0 := ⟨go_0, q1216, q1217, q1218, q108, ci_X0_keep, rfl, ⟨by decide, by decide, by decide +kernel⟩, by decide⟩
theorem gva_L_126_7 : VirtAt R_law 126 7 m_X7_keep 0 := ⟨go_7, q1798, q1799, q1800, q115, ci_X7_keep, rfl, ⟨by decide, by decide, by decide +kernel⟩, by decide⟩
theorem gva_L_127_0 : VirtAt R_law 127 0 m_X0_undo 0 := ⟨go_0, q1220, q1221, q1222, q108, ci_X0_undo, rfl, ⟨by decide, by decide, by decide +kernel⟩, by decide⟩
theorem gva_L_131_7 : VirtAt R_law 131 7 m_X7_undo 0 := ⟨go_7, q1802, q1803, q1804, q115, ci_X7_undo, rfl, ⟨by decide, by decide, by decide +kernel⟩, by decide⟩
theorem gva_L_132_0 : VirtAt R_law 132 0 m_X0_check 2 := ⟨go_0, q1224, q1225, q1226, q108, ci_X0_check, rfl, ⟨by decide, by decide, by decide +kernel⟩, by decide⟩
theorem gva_L_135_7 : VirtAt R_law 135 7 m_X7_check 2 := ⟨go_7, q1806, q1807, q1808, q115, ci_X7_check, rfl, ⟨by decide, by decide, by decide +kernel⟩, by decide⟩
theorem gva_L_136_0 : VirtAt R_law 136 0 m_X0_count 1 := ⟨go_0, q1228, q1229, q1230, q108, ci_X0_count, rfl, ⟨by decide, by decide, by decide +kernel⟩, by decide⟩
theorem gva_L_139_7 : VirtAt R_law 139 7 m_X7_count 1 := ⟨go_7, q1810, q1811, q1812, q115, ci_X7_count, rfl, ⟨by decide, by decide, by decide +kernel⟩, by decide⟩
theorem gia_X0_23 : InitAt RX0 23 m_X2_init 1 := ⟨Or.inr ⟨_, q145⟩, q146, q110, ci_X2_init, rfl, rfl, ⟨by decide, by decide, by decide +kernel⟩, by decide⟩
theorem gia_X0_32 : InitAt RX0 32 m_X3_init 1 := ⟨Or.inl q175, q176, q111, ci_X3_init, rfl, rfl, ⟨by decide, by decide, by decide +kernel⟩, by decide⟩
theorem gia_X0_49 : InitAt RX0 49 m_X6_init 0 := ⟨Or.inr ⟨_, q297⟩, q298, q114, ci_X6_init, rfl, rfl, ⟨by decide, by decide, by decide +kernel⟩, by decide⟩
theorem gia_X0_85 : InitAt RX0 85 m_X5_init 0 := ⟨Or.inr ⟨_, q329⟩, q244, q113, ci_X5_init, rfl, rfl, ⟨by decide, by decide, by decide +kernel⟩, by decide⟩
theorem gsa_X0_103 : StatAt RX0 103 m_X0_in 2 := ⟨q393, q394, q108, ci_X0_in, ⟨by decide, by decide, by decide +kernel⟩, by decide⟩
theorem gsa_X0_124 : StatAt RX0 124 m_X0_isPiece 1 := ⟨q400, q401, q108, ci_X0_isPiece, ⟨by decide, by decide, by decide +kernel⟩, by decide⟩
theorem gsa_X0_128 : StatAt RX0 128 m_X0_within 3 := ⟨q403, q404, q108, ci_X0_within, ⟨by decide, by decide, by decide +kernel⟩, by decide⟩
theorem gva_X0_135_3 : VirtAt RX0 135 3 m_X3_lives 1 := ⟨go_3, q410, q411, q412, q111, ci_X3_lives, rfl, ⟨by decide, by decide, by decide +kernel⟩, by decide⟩
theorem gva_X0_138_3 : VirtAt RX0 138 3 m_X3_dies 1 := ⟨go_3, q419, q420, q421, q111, ci_X3_dies, rfl, ⟨by decide, by decide, by decide +kernel⟩, by decide⟩
theorem gva_X0_142_4 : VirtAt RX0 142 4 m_X4_isFree 0 := ⟨go_4, q431, q432, q433, q112, ci_X4_isFree, rfl, ⟨by decide, by decide, by decide +kernel⟩, by decide⟩
theorem gva_X0_146_3 : VirtAt RX0 146 3 m_X3_wed 2 := ⟨go_3, q436, q437, q438, q111, ci_X3_wed, rfl, ⟨by decide, by decide, by decide +kernel⟩, by decide⟩
theorem gva_X0_152_0 : VirtAt RX0 152 0 m_X0_push 1 := ⟨go_0, q444, q446, qs0, q108, ci_X0_push, rfl, ⟨by decide, by decide, by decide +kernel⟩, by decide⟩
theorem gia_X0_157 : InitAt RX0 157 m_X8_init 2 := ⟨Or.inl q454, q455, q116, ci_X8_init, rfl, rfl, ⟨by decide, by decide, by decide +kernel⟩, by decide⟩
theorem gva_X0_160_8 : VirtAt RX0 160 8 m_X8_read 0 := ⟨go_8, q483, q484, q485, q116, ci_X8_read, rfl, ⟨by decide, by decide, by decide +kernel⟩, by decide⟩
theorem gia_X0_169 : InitAt RX0 169 m_X18_init 2 := ⟨Or.inl q723, q724, q132, ci_X18_init, rfl, rfl, ⟨by decide, by decide, by decide +kernel⟩, by decide⟩
theorem gva_X0_170_18 : VirtAt RX0 170 18 m_X18_read 0 := ⟨go_18, q756, q757, q758, q132, ci_X18_read, rfl, ⟨by decide, by decide, by decide +kernel⟩, by decide⟩
theorem gva_X0_175_0 : VirtAt RX0 175 0 m_X0_isPerson 1 := ⟨go_0, q862, q864, qs15, q108, ci_X0_isPerson, rfl, ⟨by decide, by decide, by decide +kernel⟩, by decide⟩
theorem gia_X0_180 : InitAt RX0 180 m_X19_init 2 := ⟨Or.inl q868, q869, q133, ci_X19_init, rfl, rfl, ⟨by decide, by decide, by decide +kernel⟩, by decide⟩
theorem gva_X0_181_19 : VirtAt RX0 181 19 m_X19_read 0 := ⟨go_19, q891, q892, q893, q133, ci_X19_read, rfl, ⟨by decide, by decide, by decide +kernel⟩, by decide⟩
theorem gva_X0_192_3 : VirtAt RX0 192 3 m_X3_goes 1 := ⟨go_3, q905, q906, q907, q111, ci_X3_goes, rfl, ⟨by decide, by decide, by decide +kernel⟩, by decide⟩
theorem gsa_X0_1 : StatAt RX0 1 m_J2_min 2 := ⟨q1026, q532, q119, ci_J2_min, ⟨by decide, by decide, by decide +kernel⟩, by decide⟩
theorem gsa_X0_7 : StatAt RX0 7 m_J2_max 2 := ⟨q1027, q529, q119, ci_J2_max, ⟨by decide, by decide, by decide +kernel⟩, by decide⟩
theorem gva_X0_199_3 : VirtAt RX0 199 3 m_X3_takes 1 := ⟨go_3, q1047, q1048, q1049, q111, ci_X3_takes, rfl, ⟨by decide, by decide, by decide +kernel⟩, by decide⟩
theorem gva_X0_209_3 : VirtAt RX0 209 3 m_X3_couples 0 := ⟨go_3, q1059, q1060, q1061, q111, ci_X3_couples, rfl, ⟨by decide, by decide, by decide +kernel⟩, by decide⟩
theorem gsa_X0_212 : StatAt RX0 212 m_X0_orNone 1 := ⟨q1063, q1064, q108, ci_X0_orNone, ⟨by decide, by decide, by decide +kernel⟩, by decide⟩
theorem gva_X0_225_3 : VirtAt RX0 225 3 m_X3_holds 1 := ⟨go_3, q1070, q988, q989, q111, ci_X3_holds, rfl, ⟨by decide, by decide, by decide +kernel⟩, by decide⟩
theorem gva_X0_228_0 : VirtAt RX0 228 0 m_X0_fitting 1 := ⟨go_0, q1071, q1073, qs23, q108, ci_X0_fitting, rfl, ⟨by decide, by decide, by decide +kernel⟩, by decide⟩
theorem gva_X0_216_3 : VirtAt RX0 216 3 m_X3_fit 2 := ⟨go_3, q1075, q934, q935, q111, ci_X3_fit, rfl, ⟨by decide, by decide, by decide +kernel⟩, by decide⟩
theorem gva_X0_234_3 : VirtAt RX0 234 3 m_X3_slack 2 := ⟨go_3, q1084, q938, q939, q111, ci_X3_slack, rfl, ⟨by decide, by decide, by decide +kernel⟩, by decide⟩
theorem gva_X0_237_3 : VirtAt RX0 237 3 m_X3_likes 2 := ⟨go_3, q1085, q1086, q1087, q111, ci_X3_likes, rfl, ⟨by decide, by decide, by decide +kernel⟩, by decide⟩
theorem gva_X0_240_0 : VirtAt RX0 240 0 m_X0_areFit 2 := ⟨go_0, q1093, q1095, qs24, q108, ci_X0_areFit, rfl, ⟨by decide, by decide, by decide +kernel⟩, by decide⟩
theorem gva_X0_243_0 : VirtAt RX0 243 0 m_X0_isAsker 1 := ⟨go_0, q1101, q1103, qs25, q108, ci_X0_isAsker, rfl, ⟨by decide, by decide, by decide +kernel⟩, by decide⟩
theorem gva_X0_253_0 : VirtAt RX0 253 0 m_X0_laysBest 0 := ⟨go_0, q1105, q1107, qs26, q108, ci_X0_laysBest, rfl, ⟨by decide, by decide, by decide +kernel⟩, by decide⟩
theorem gsa_X0_246 : StatAt RX0 246 m_X0_has 2 := ⟨q1109, q923, q108, ci_X0_has, ⟨by decide, by decide, by decide +kernel⟩, by decide⟩
theorem gva_X0_249_0 : VirtAt RX0 249 0 m_X0_gainBy 3 := ⟨go_0, q1110, q1112, qs27, q108, ci_X0_gainBy, rfl, ⟨by decide, by decide, by decide +kernel⟩, by decide⟩
theorem gva_X0_262_0 : VirtAt RX0 262 0 m_X0_laysStable 0 := ⟨go_0, q1118, q1120, qs28, q108, ci_X0_laysStable, rfl, ⟨by decide, by decide, by decide +kernel⟩, by decide⟩
theorem gva_X0_259_0 : VirtAt RX0 259 0 m_X0_nextFor 1 := ⟨go_0, q1122, q1124, qs29, q108, ci_X0_nextFor, rfl, ⟨by decide, by decide, by decide +kernel⟩, by decide⟩
theorem gva_X0_256_0 : VirtAt RX0 256 0 m_X0_likesMore 3 := ⟨go_0, q1126, q1128, qs30, q108, ci_X0_likesMore, rfl, ⟨by decide, by decide, by decide +kernel⟩, by decide⟩
theorem gva_X0_265_0 : VirtAt RX0 265 0 m_X0_wouldLeave 2 := ⟨go_0, q1134, q1136, qs31, q108, ci_X0_wouldLeave, rfl, ⟨by decide, by decide, by decide +kernel⟩, by decide⟩
theorem gva_X0_275_0 : VirtAt RX0 275 0 m_X0_isSearch 1 := ⟨go_0, q1142, q1144, qs32, q108, ci_X0_isSearch, rfl, ⟨by decide, by decide, by decide +kernel⟩, by decide⟩
theorem gva_X0_271_0 : VirtAt RX0 271 0 m_X0_searches 5 := ⟨go_0, q1147, q1149, qs33, q108, ci_X0_searches, rfl, ⟨by decide, by decide, by decide +kernel⟩, by decide⟩
theorem gsa_X0_10 : StatAt RX0 10 m_X0_divisor 2 := ⟨q1151, q1152, q108, ci_X0_divisor, ⟨by decide, by decide, by decide +kernel⟩, by decide⟩
theorem gva_X0_290_0 : VirtAt RX0 290 0 m_X0_laysWorks 5 := ⟨go_0, q1158, q1160, qs34, q108, ci_X0_laysWorks, rfl, ⟨by decide, by decide, by decide +kernel⟩, by decide⟩
theorem gva_X0_294_5 : VirtAt RX0 294 5 m_X5_takes 1 := ⟨go_5, q1170, q1056, q1057, q113, ci_X5_takes, rfl, ⟨by decide, by decide, by decide +kernel⟩, by decide⟩
theorem gva_X0_286_0 : VirtAt RX0 286 0 m_X0_workBy 7 := ⟨go_0, q1162, q1164, qs35, q108, ci_X0_workBy, rfl, ⟨by decide, by decide, by decide +kernel⟩, by decide⟩
theorem gsa_X0_282 : StatAt RX0 282 m_X0_gapAt 3 := ⟨q1166, q1167, q108, ci_X0_gapAt, ⟨by decide, by decide, by decide +kernel⟩, by decide⟩
theorem gva_X0_297_5 : VirtAt RX0 297 5 m_X5_slack 1 := ⟨go_5, q1171, q943, q944, q113, ci_X5_slack, rfl, ⟨by decide, by decide, by decide +kernel⟩, by decide⟩
theorem gsa_X0_279 : StatAt RX0 279 m_J2_abs 1 := ⟨q1169, q856, q119, ci_J2_abs, ⟨by decide, by decide, by decide +kernel⟩, by decide⟩
theorem gva_X0_300_0 : VirtAt RX0 300 0 m_X0_steams 3 := ⟨go_0, q1176, q1178, qs36, q108, ci_X0_steams, rfl, ⟨by decide, by decide, by decide +kernel⟩, by decide⟩
theorem gva_X0_304_2 : VirtAt RX0 304 2 m_X2_of 4 := ⟨go_2, q1184, q958, q959, q110, ci_X2_of, rfl, ⟨by decide, by decide, by decide +kernel⟩, by decide⟩
theorem gva_X0_308_2 : VirtAt RX0 308 2 m_X2_tells 2 := ⟨go_2, q1185, q962, q963, q110, ci_X2_tells, rfl, ⟨by decide, by decide, by decide +kernel⟩, by decide⟩
theorem gva_X0_311_5 : VirtAt RX0 311 5 m_X5_wears 1 := ⟨go_5, q1186, q1030, q1031, q113, ci_X5_wears, rfl, ⟨by decide, by decide, by decide +kernel⟩, by decide⟩
theorem gva_X0_318_0 : VirtAt RX0 318 0 m_X0_fitsAll 2 := ⟨go_0, q1191, q1193, qs37, q108, ci_X0_fitsAll, rfl, ⟨by decide, by decide, by decide +kernel⟩, by decide⟩
theorem gva_X0_314_0 : VirtAt RX0 314 0 m_X0_isMade 3 := ⟨go_0, q1195, q1197, qs38, q108, ci_X0_isMade, rfl, ⟨by decide, by decide, by decide +kernel⟩, by decide⟩
theorem gva_X0_321_5 : VirtAt RX0 321 5 m_X5_isLike 1 := ⟨go_5, q1203, q1204, q1205, q113, ci_X5_isLike, rfl, ⟨by decide, by decide, by decide +kernel⟩, by decide⟩
theorem gva_X0_329_0 : VirtAt RX0 329 0 m_X0_inTown 1 := ⟨go_0, q1232, q1234, qs39, q108, ci_X0_inTown, rfl, ⟨by decide, by decide, by decide +kernel⟩, by decide⟩
theorem gva_X0_335_0 : VirtAt RX0 335 0 m_X0_told 1 := ⟨go_0, q1236, q1238, qs40, q108, ci_X0_told, rfl, ⟨by decide, by decide, by decide +kernel⟩, by decide⟩
theorem gia_X10_1 : InitAt RX10 1 m_X9_init 0 := ⟨Or.inr ⟨_, q647⟩, q626, q123, ci_X9_init, rfl, rfl, ⟨by decide, by decide, by decide +kernel⟩, by decide⟩
theorem gua_X10_23_10 : InhAt RX10 23 10 ⟨"PuzzleWed$Sum", "worth", "(LPuzzleWed$Asked;)I"⟩ m_X10_worth 1 := ⟨go_10, "PuzzleWed$Sum", q1003, q977, q1000, q1001, q124, ci_X10_worth, Or.inl q976, by decide, by decide, by decide +kernel, by decide⟩
theorem gua_X10_23_11 : InhAt RX10 23 11 ⟨"PuzzleWed$Sum", "worth", "(LPuzzleWed$Asked;)I"⟩ m_X11_worth 1 := ⟨go_11, "PuzzleWed$Sum", q1003, q977, q997, q998, q125, ci_X11_worth, Or.inl q976, by decide, by decide, by decide +kernel, by decide⟩
theorem gua_X10_23_12 : InhAt RX10 23 12 ⟨"PuzzleWed$Sum", "worth", "(LPuzzleWed$Asked;)I"⟩ m_X12_worth 1 := ⟨go_12, "PuzzleWed$Sum", q1003, q977, q978, q979, q126, ci_X12_worth, Or.inl q976, by decide, by decide, by decide +kernel, by decide⟩
theorem gsa_X10_31 : StatAt RX10 31 m_X10_worked 4 := ⟨q1004, q1005, q124, ci_X10_worked, ⟨by decide, by decide, by decide +kernel⟩, by decide⟩
theorem gia_X11_1 : InitAt RX11 1 m_X9_init 0 := ⟨Or.inr ⟨_, q625⟩, q626, q123, ci_X9_init, rfl, rfl, ⟨by decide, by decide, by decide +kernel⟩, by decide⟩
theorem gia_X12_1 : InitAt RX12 1 m_X9_init 0 := ⟨Or.inr ⟨_, q639⟩, q626, q123, ci_X9_init, rfl, rfl, ⟨by decide, by decide, by decide +kernel⟩, by decide⟩
theorem gua_X12_13_2 : InhAt RX12 13 2 ⟨"PuzzleWed$Asked", "value", "(I)I"⟩ m_X2_value 1 := ⟨go_2, "PuzzleWed$Asked", q981, q983, q984, q985, q110, ci_X2_value, Or.inl q982, by decide, by decide, by decide +kernel, by decide⟩
theorem gia_X14_1 : InitAt RX14 1 m_X13_init 0 := ⟨Or.inr ⟨_, q705⟩, q679, q127, ci_X13_init, rfl, rfl, ⟨by decide, by decide, by decide +kernel⟩, by decide⟩
theorem gua_X14_17_14 : InhAt RX14 17 14 ⟨"PuzzleWed$Condition", "holds", "(LPuzzleWed$Asked;)I"⟩ m_X14_holds 1 := ⟨go_14, "PuzzleWed$Condition", q1013, q971, q1014, q1011, q128, ci_X14_holds, Or.inl q970, by decide, by decide, by decide +kernel, by decide⟩
theorem gua_X14_17_15 : InhAt RX14 17 15 ⟨"PuzzleWed$Condition", "holds", "(LPuzzleWed$Asked;)I"⟩ m_X15_holds 1 := ⟨go_15, "PuzzleWed$Condition", q1013, q971, q1007, q1008, q129, ci_X15_holds, Or.inl q970, by decide, by decide, by decide +kernel, by decide⟩
theorem gua_X14_17_16 : InhAt RX14 17 16 ⟨"PuzzleWed$Condition", "holds", "(LPuzzleWed$Asked;)I"⟩ m_X16_holds 1 := ⟨go_16, "PuzzleWed$Condition", q1013, q971, q972, q973, q130, ci_X16_holds, Or.inl q970, by decide, by decide, by decide +kernel, by decide⟩
theorem gia_X15_1 : InitAt RX15 1 m_X13_init 0 := ⟨Or.inr ⟨_, q678⟩, q679, q127, ci_X13_init, rfl, rfl, ⟨by decide, by decide, by decide +kernel⟩, by decide⟩
theorem gua_X15_13_14 : InhAt RX15 13 14 ⟨"PuzzleWed$Condition", "holds", "(LPuzzleWed$Asked;)I"⟩ m_X14_holds 1 := ⟨go_14, "PuzzleWed$Condition", q1010, q971, q1014, q1011, q128, ci_X14_holds, Or.inl q970, by decide, by decide, by decide +kernel, by decide⟩
theorem gua_X15_13_15 : InhAt RX15 13 15 ⟨"PuzzleWed$Condition", "holds", "(LPuzzleWed$Asked;)I"⟩ m_X15_holds 1 := ⟨go_15, "PuzzleWed$Condition", q1010, q971, q1007, q1008, q129, ci_X15_holds, Or.inl q970, by decide, by decide, by decide +kernel, by decide⟩
theorem gua_X15_13_16 : InhAt RX15 13 16 ⟨"PuzzleWed$Condition", "holds", "(LPuzzleWed$Asked;)I"⟩ m_X16_holds 1 := ⟨go_16, "PuzzleWed$Condition", q1010, q971, q972, q973, q130, ci_X16_holds, Or.inl q970, by decide, by decide, by decide +kernel, by decide⟩
theorem gia_X16_1 : InitAt RX16 1 m_X13_init 0 := ⟨Or.inr ⟨_, q691⟩, q679, q127, ci_X13_init, rfl, rfl, ⟨by decide, by decide, by decide +kernel⟩, by decide⟩
theorem gua_X16_26_10 : InhAt RX16 26 10 ⟨"PuzzleWed$Sum", "worth", "(LPuzzleWed$Asked;)I"⟩ m_X10_worth 1 := ⟨go_10, "PuzzleWed$Sum", q975, q977, q1000, q1001, q124, ci_X10_worth, Or.inl q976, by decide, by decide, by decide +kernel, by decide⟩
theorem gua_X16_26_11 : InhAt RX16 26 11 ⟨"PuzzleWed$Sum", "worth", "(LPuzzleWed$Asked;)I"⟩ m_X11_worth 1 := ⟨go_11, "PuzzleWed$Sum", q975, q977, q997, q998, q125, ci_X11_worth, Or.inl q976, by decide, by decide, by decide +kernel, by decide⟩
theorem gua_X16_26_12 : InhAt RX16 26 12 ⟨"PuzzleWed$Sum", "worth", "(LPuzzleWed$Asked;)I"⟩ m_X12_worth 1 := ⟨go_12, "PuzzleWed$Sum", q975, q977, q978, q979, q126, ci_X12_worth, Or.inl q976, by decide, by decide, by decide +kernel, by decide⟩
theorem gua_X17_36_18 : InhAt RX17 36 18 ⟨"PuzzleWed$Scribe", "entry", "()V"⟩ m_X18_entry 0 := ⟨go_18, "PuzzleWed$Scribe", q766, q768, q769, q770, q132, ci_X18_entry, Or.inl q767, by decide, by decide, by decide +kernel, by decide⟩
theorem gua_X17_36_19 : InhAt RX17 36 19 ⟨"PuzzleWed$Scribe", "entry", "()V"⟩ m_X19_entry 0 := ⟨go_19, "PuzzleWed$Scribe", q766, q768, q818, q819, q133, ci_X19_entry, Or.inl q767, by decide, by decide, by decide +kernel, by decide⟩
theorem gua_X17_39_18 : InhAt RX17 39 18 ⟨"PuzzleWed$Scribe", "isGood", "()Z"⟩ m_X17_isGood 0 := ⟨go_18, "PuzzleWed$Scribe", q842, q1826, q1827, q807, q131, ci_X17_isGood, Or.inl q805, by decide, by decide, by decide +kernel, by decide⟩
theorem gua_X17_39_19 : InhAt RX17 39 19 ⟨"PuzzleWed$Scribe", "isGood", "()Z"⟩ m_X17_isGood 0 := ⟨go_19, "PuzzleWed$Scribe", q842, q1826, q1828, q807, q131, ci_X17_isGood, Or.inl q805, by decide, by decide, by decide +kernel, by decide⟩
theorem gua_X17_43_18 : InhAt RX17 43 18 ⟨"PuzzleWed$Scribe", "isEnd", "()Z"⟩ m_X17_isEnd 0 := ⟨go_18, "PuzzleWed$Scribe", q843, q845, q846, q844, q131, ci_X17_isEnd, Or.inr rfl, by decide, by decide, by decide +kernel, by decide⟩
theorem gua_X17_43_19 : InhAt RX17 43 19 ⟨"PuzzleWed$Scribe", "isEnd", "()Z"⟩ m_X17_isEnd 0 := ⟨go_19, "PuzzleWed$Scribe", q843, q845, q847, q844, q131, ci_X17_isEnd, Or.inr rfl, by decide, by decide, by decide +kernel, by decide⟩
theorem gua_X17_32_18 : InhAt RX17 32 18 ⟨"PuzzleWed$Scribe", "here", "()I"⟩ m_X17_here 0 := ⟨go_18, "PuzzleWed$Scribe", q796, q1814, q1815, q782, q131, ci_X17_here, Or.inl q780, by decide, by decide, by decide +kernel, by decide⟩
theorem gua_X17_32_19 : InhAt RX17 32 19 ⟨"PuzzleWed$Scribe", "here", "()I"⟩ m_X17_here 0 := ⟨go_19, "PuzzleWed$Scribe", q796, q1814, q1816, q782, q131, ci_X17_here, Or.inl q780, by decide, by decide, by decide +kernel, by decide⟩
theorem gua_X17_46_18 : InhAt RX17 46 18 ⟨"PuzzleWed$Scribe", "bad", "(II)V"⟩ m_X17_bad 2 := ⟨go_18, "PuzzleWed$Scribe", q817, q1823, q1824, q801, q131, ci_X17_bad, Or.inl q799, by decide, by decide, by decide +kernel, by decide⟩
theorem gua_X17_46_19 : InhAt RX17 46 19 ⟨"PuzzleWed$Scribe", "bad", "(II)V"⟩ m_X17_bad 2 := ⟨go_19, "PuzzleWed$Scribe", q817, q1823, q1825, q801, q131, ci_X17_bad, Or.inl q799, by decide, by decide, by decide +kernel, by decide⟩
theorem gua_X17_50_18 : InhAt RX17 50 18 ⟨"PuzzleWed$Scribe", "goes", "()V"⟩ m_X17_goes 0 := ⟨go_18, "PuzzleWed$Scribe", q815, q1817, q1818, q788, q131, ci_X17_goes, Or.inl q786, by decide, by decide, by decide +kernel, by decide⟩
theorem gua_X17_50_19 : InhAt RX17 50 19 ⟨"PuzzleWed$Scribe", "goes", "()V"⟩ m_X17_goes 0 := ⟨go_19, "PuzzleWed$Scribe", q815, q1817, q1819, q788, q131, ci_X17_goes, Or.inl q786, by decide, by decide, by decide +kernel, by decide⟩
theorem gua_X17_53_18 : InhAt RX17 53 18 ⟨"PuzzleWed$Scribe", "sees", "(II)Z"⟩ m_X17_sees 2 := ⟨go_18, "PuzzleWed$Scribe", q816, q1820, q1821, q794, q131, ci_X17_sees, Or.inl q792, by decide, by decide, by decide +kernel, by decide⟩
theorem gua_X17_53_19 : InhAt RX17 53 19 ⟨"PuzzleWed$Scribe", "sees", "(II)Z"⟩ m_X17_sees 2 := ⟨go_19, "PuzzleWed$Scribe", q816, q1820, q1822, q794, q131, ci_X17_sees, Or.inl q792, by decide, by decide, by decide +kernel, by decide⟩
theorem gia_X18_9 : InitAt RX18 9 m_X17_init 2 := ⟨Or.inl q726, q727, q131, ci_X17_init, rfl, rfl, ⟨by decide, by decide, by decide +kernel⟩, by decide⟩
theorem gua_X18_50_18 : InhAt RX18 50 18 ⟨"PuzzleWed$Carver", "reads", "()Z"⟩ m_X17_reads 0 := ⟨go_18, "PuzzleWed$Scribe", q760, q761, q763, q764, q131, ci_X17_reads, Or.inl q762, by decide, by decide, by decide +kernel, by decide⟩
theorem gua_X18_19_18 : InhAt RX18 19 18 ⟨"PuzzleWed$Carver", "place", "()I"⟩ m_X17_place 0 := ⟨go_18, "PuzzleWed$Scribe", q772, q773, q775, q776, q131, ci_X17_place, Or.inl q774, by decide, by decide, by decide +kernel, by decide⟩
theorem gua_X18_34_18 : InhAt RX18 34 18 ⟨"PuzzleWed$Carver", "bad", "(II)V"⟩ m_X17_bad 2 := ⟨go_18, "PuzzleWed$Scribe", q797, q798, q800, q801, q131, ci_X17_bad, Or.inl q799, by decide, by decide, by decide +kernel, by decide⟩
theorem gua_X18_38_18 : InhAt RX18 38 18 ⟨"PuzzleWed$Carver", "isGood", "()Z"⟩ m_X17_isGood 0 := ⟨go_18, "PuzzleWed$Scribe", q803, q804, q806, q807, q131, ci_X17_isGood, Or.inl q805, by decide, by decide, by decide +kernel, by decide⟩
theorem gua_X18_53_18 : InhAt RX18 53 18 ⟨"PuzzleWed$Carver", "faulty", "()I"⟩ m_X17_faulty 0 := ⟨go_18, "PuzzleWed$Scribe", q849, q850, q852, q853, q131, ci_X17_faulty, Or.inl q851, by decide, by decide, by decide +kernel, by decide⟩
theorem gsa_X18_56 : StatAt RX18 56 m_J2_abs 1 := ⟨q855, q856, q119, ci_J2_abs, ⟨by decide, by decide, by decide +kernel⟩, by decide⟩
theorem gua_X18_23_18 : InhAt RX18 23 18 ⟨"PuzzleWed$Carver", "here", "()I"⟩ m_X17_here 0 := ⟨go_18, "PuzzleWed$Scribe", q778, q779, q781, q782, q131, ci_X17_here, Or.inl q780, by decide, by decide, by decide +kernel, by decide⟩
theorem gua_X18_26_18 : InhAt RX18 26 18 ⟨"PuzzleWed$Carver", "goes", "()V"⟩ m_X17_goes 0 := ⟨go_18, "PuzzleWed$Scribe", q784, q785, q787, q788, q131, ci_X17_goes, Or.inl q786, by decide, by decide, by decide +kernel, by decide⟩
theorem gua_X18_30_18 : InhAt RX18 30 18 ⟨"PuzzleWed$Carver", "sees", "(II)Z"⟩ m_X17_sees 2 := ⟨go_18, "PuzzleWed$Scribe", q790, q791, q793, q794, q131, ci_X17_sees, Or.inl q792, by decide, by decide, by decide +kernel, by decide⟩
theorem gua_X18_42_18 : InhAt RX18 42 18 ⟨"PuzzleWed$Carver", "times", "(I)I"⟩ m_X17_times 1 := ⟨go_18, "PuzzleWed$Scribe", q809, q810, q812, q813, q131, ci_X17_times, Or.inl q811, by decide, by decide, by decide +kernel, by decide⟩
theorem gua_X19_19_19 : InhAt RX19 19 19 ⟨"PuzzleWed$Guide", "sees", "(II)Z"⟩ m_X17_sees 2 := ⟨go_19, "PuzzleWed$Scribe", q821, q822, q823, q794, q131, ci_X17_sees, Or.inl q792, by decide, by decide, by decide +kernel, by decide⟩
theorem gua_X19_23_19 : InhAt RX19 23 19 ⟨"PuzzleWed$Guide", "place", "()I"⟩ m_X17_place 0 := ⟨go_19, "PuzzleWed$Scribe", q824, q825, q826, q776, q131, ci_X17_place, Or.inl q774, by decide, by decide, by decide +kernel, by decide⟩
theorem gua_X19_27_19 : InhAt RX19 27 19 ⟨"PuzzleWed$Guide", "bad", "(II)V"⟩ m_X17_bad 2 := ⟨go_19, "PuzzleWed$Scribe", q827, q828, q829, q801, q131, ci_X17_bad, Or.inl q799, by decide, by decide, by decide +kernel, by decide⟩
theorem gua_X19_35_19 : InhAt RX19 35 19 ⟨"PuzzleWed$Guide", "here", "()I"⟩ m_X17_here 0 := ⟨go_19, "PuzzleWed$Scribe", q830, q831, q832, q782, q131, ci_X17_here, Or.inl q780, by decide, by decide, by decide +kernel, by decide⟩
theorem gua_X19_38_19 : InhAt RX19 38 19 ⟨"PuzzleWed$Guide", "goes", "()V"⟩ m_X17_goes 0 := ⟨go_19, "PuzzleWed$Scribe", q833, q834, q835, q788, q131, ci_X17_goes, Or.inl q786, by decide, by decide, by decide +kernel, by decide⟩
theorem gua_X19_42_19 : InhAt RX19 42 19 ⟨"PuzzleWed$Guide", "isGood", "()Z"⟩ m_X17_isGood 0 := ⟨go_19, "PuzzleWed$Scribe", q836, q837, q838, q807, q131, ci_X17_isGood, Or.inl q805, by decide, by decide, by decide +kernel, by decide⟩
theorem gua_X19_46_19 : InhAt RX19 46 19 ⟨"PuzzleWed$Guide", "times", "(I)I"⟩ m_X17_times 1 := ⟨go_19, "PuzzleWed$Scribe", q839, q840, q841, q813, q131, ci_X17_times, Or.inl q811, by decide, by decide, by decide +kernel, by decide⟩
theorem gia_X19_9 : InitAt RX19 9 m_X17_init 2 := ⟨Or.inl q871, q727, q131, ci_X17_init, rfl, rfl, ⟨by decide, by decide, by decide +kernel⟩, by decide⟩
theorem gua_X19_53_19 : InhAt RX19 53 19 ⟨"PuzzleWed$Guide", "reads", "()Z"⟩ m_X17_reads 0 := ⟨go_19, "PuzzleWed$Scribe", q895, q896, q897, q764, q131, ci_X17_reads, Or.inl q762, by decide, by decide, by decide +kernel, by decide⟩
theorem gua_X19_56_19 : InhAt RX19 56 19 ⟨"PuzzleWed$Guide", "faulty", "()I"⟩ m_X17_faulty 0 := ⟨go_19, "PuzzleWed$Scribe", q898, q899, q900, q853, q131, ci_X17_faulty, Or.inl q851, by decide, by decide, by decide +kernel, by decide⟩
theorem gia_X2_7 : InitAt RX2 7 m_X1_init 0 := ⟨Or.inr ⟨_, q148⟩, q149, q109, ci_X1_init, rfl, rfl, ⟨by decide, by decide, by decide +kernel⟩, by decide⟩
theorem gva_X2_62_6 : VirtAt RX2 62 6 m_X6_tells 2 := ⟨go_6, q965, q966, q967, q114, ci_X6_tells, rfl, ⟨by decide, by decide, by decide +kernel⟩, by decide⟩
theorem gsa_X2_68 : StatNAt RX2 68 m_X0_held 2 := ⟨⟨_, q1023⟩, q1024, q108, ci_X0_held, ⟨by decide, by decide, by decide +kernel⟩, by decide⟩
theorem gva_X2_33_3 : VirtAt RX2 33 3 m_X3_holds 1 := ⟨go_3, q987, q988, q989, q111, ci_X3_holds, rfl, ⟨by decide, by decide, by decide +kernel⟩, by decide⟩
theorem gsa_X2_37 : StatAt RX2 37 m_J6_bitCount 1 := ⟨q991, q992, q134, ci_J6_bitCount, ⟨by decide, by decide, by decide +kernel⟩, by decide⟩
theorem gia_X3_27 : InitAt RX3 27 m_X4_init 0 := ⟨Or.inr ⟨_, q184⟩, q185, q112, ci_X4_init, rfl, rfl, ⟨by decide, by decide, by decide +kernel⟩, by decide⟩
theorem gia_X3_28 : InitAt RX3 28 m_X5_init 0 := ⟨Or.inr ⟨_, q243⟩, q244, q113, ci_X5_init, rfl, rfl, ⟨by decide, by decide, by decide +kernel⟩, by decide⟩
theorem gsa_X3_46 : StatNAt RX3 46 m_X0_in 2 := ⟨⟨_, q414⟩, q394, q108, ci_X0_in, ⟨by decide, by decide, by decide +kernel⟩, by decide⟩
theorem gva_X3_50_4 : VirtAt RX3 50 4 m_X4_lives 0 := ⟨go_4, q415, q416, q417, q112, ci_X4_lives, rfl, ⟨by decide, by decide, by decide +kernel⟩, by decide⟩
theorem gva_X3_140_3 : VirtAt RX3 140 3 m_X3_part 2 := ⟨go_3, q423, q424, q425, q111, ci_X3_part, rfl, ⟨by decide, by decide, by decide +kernel⟩, by decide⟩
theorem gva_X3_154_3 : VirtAt RX3 154 3 m_X3_dayGoes 0 := ⟨go_3, q909, q911, qs16, q111, ci_X3_dayGoes, rfl, ⟨by decide, by decide, by decide +kernel⟩, by decide⟩
theorem gva_X3_146_3 : VirtAt RX3 146 3 m_X3_travels 1 := ⟨go_3, q913, q915, qs17, q111, ci_X3_travels, rfl, ⟨by decide, by decide, by decide +kernel⟩, by decide⟩
theorem gva_X3_115_4 : VirtAt RX3 115 4 m_X4_isFree 0 := ⟨go_4, q917, q432, q433, q112, ci_X4_isFree, rfl, ⟨by decide, by decide, by decide +kernel⟩, by decide⟩
theorem gva_X3_149_3 : VirtAt RX3 149 3 m_X3_meets 2 := ⟨go_3, q918, q920, qs18, q111, ci_X3_meets, rfl, ⟨by decide, by decide, by decide +kernel⟩, by decide⟩
theorem gva_X3_152_3 : VirtAt RX3 152 3 m_X3_creaks 2 := ⟨go_3, q1034, q1036, qs21, q111, ci_X3_creaks, rfl, ⟨by decide, by decide, by decide +kernel⟩, by decide⟩
theorem gsa_X3_131 : StatNAt RX3 131 m_X0_has 2 := ⟨⟨_, q922⟩, q923, q108, ci_X0_has, ⟨by decide, by decide, by decide +kernel⟩, by decide⟩
theorem gva_X3_134_3 : VirtAt RX3 134 3 m_X3_tries 2 := ⟨go_3, q925, q927, qs19, q111, ci_X3_tries, rfl, ⟨by decide, by decide, by decide +kernel⟩, by decide⟩
theorem gva_X3_98_3 : VirtAt RX3 98 3 m_X3_haveTried 2 := ⟨go_3, q929, q930, q931, q111, ci_X3_haveTried, rfl, ⟨by decide, by decide, by decide +kernel⟩, by decide⟩
theorem gva_X3_102_3 : VirtAt RX3 102 3 m_X3_fit 2 := ⟨go_3, q933, q934, q935, q111, ci_X3_fit, rfl, ⟨by decide, by decide, by decide +kernel⟩, by decide⟩
theorem gva_X3_105_3 : VirtAt RX3 105 3 m_X3_wed 2 := ⟨go_3, q1028, q437, q438, q111, ci_X3_wed, rfl, ⟨by decide, by decide, by decide +kernel⟩, by decide⟩
theorem gva_X3_68_3 : VirtAt RX3 68 3 m_X3_slack 2 := ⟨go_3, q937, q938, q939, q111, ci_X3_slack, rfl, ⟨by decide, by decide, by decide +kernel⟩, by decide⟩
theorem gva_X3_77_2 : VirtAt RX3 77 2 m_X2_of 4 := ⟨go_2, q957, q958, q959, q110, ci_X2_of, rfl, ⟨by decide, by decide, by decide +kernel⟩, by decide⟩
theorem gva_X3_83_2 : VirtAt RX3 83 2 m_X2_tells 2 := ⟨go_2, q961, q962, q963, q110, ci_X2_tells, rfl, ⟨by decide, by decide, by decide +kernel⟩, by decide⟩
theorem gva_X3_110_5 : VirtAt RX3 110 5 m_X5_wears 1 := ⟨go_5, q1029, q1030, q1031, q113, ci_X5_wears, rfl, ⟨by decide, by decide, by decide +kernel⟩, by decide⟩
theorem gva_X3_70_3 : VirtAt RX3 70 3 m_X3_isFirst 2 := ⟨go_3, q953, q955, qs20, q111, ci_X3_isFirst, rfl, ⟨by decide, by decide, by decide +kernel⟩, by decide⟩
theorem gva_X3_55_5 : VirtAt RX3 55 5 m_X5_slack 1 := ⟨go_5, q942, q943, q944, q113, ci_X5_slack, rfl, ⟨by decide, by decide, by decide +kernel⟩, by decide⟩
theorem gsa_X3_59 : StatAt RX3 59 m_J2_min 2 := ⟨q952, q532, q119, ci_J2_min, ⟨by decide, by decide, by decide +kernel⟩, by decide⟩
theorem gva_X3_136_3 : VirtAt RX3 136 3 m_X3_draw 0 := ⟨go_3, q1038, q1040, qs22, q111, ci_X3_draw, rfl, ⟨by decide, by decide, by decide +kernel⟩, by decide⟩
theorem gva_X3_33_4 : VirtAt RX3 33 4 m_X4_takes 1 := ⟨go_4, q1051, q1052, q1053, q112, ci_X4_takes, rfl, ⟨by decide, by decide, by decide +kernel⟩, by decide⟩
theorem gva_X3_37_5 : VirtAt RX3 37 5 m_X5_takes 1 := ⟨go_5, q1055, q1056, q1057, q113, ci_X5_takes, rfl, ⟨by decide, by decide, by decide +kernel⟩, by decide⟩
theorem gva_X4_44_4 : VirtAt RX4 44 4 m_X4_lives 0 := ⟨go_4, q435, q416, q417, q112, ci_X4_lives, rfl, ⟨by decide, by decide, by decide +kernel⟩, by decide⟩
theorem gva_X5_28_5 : VirtAt RX5 28 5 m_X5_gap 1 := ⟨go_5, q946, q947, q948, q113, ci_X5_gap, rfl, ⟨by decide, by decide, by decide +kernel⟩, by decide⟩
theorem gsa_X5_32 : StatAt RX5 32 m_J2_max 2 := ⟨q951, q529, q119, ci_J2_max, ⟨by decide, by decide, by decide +kernel⟩, by decide⟩
theorem gsa_X5_22 : StatAt RX5 22 m_J2_abs 1 := ⟨q950, q856, q119, ci_J2_abs, ⟨by decide, by decide, by decide +kernel⟩, by decide⟩
theorem gsa_X5_36 : StatAt RX5 36 m_J2_min 2 := ⟨q1033, q532, q119, ci_J2_min, ⟨by decide, by decide, by decide +kernel⟩, by decide⟩
theorem gua_X6_31_14 : InhAt RX6 31 14 ⟨"PuzzleWed$Condition", "holds", "(LPuzzleWed$Asked;)I"⟩ m_X14_holds 1 := ⟨go_14, "PuzzleWed$Condition", q969, q971, q1014, q1011, q128, ci_X14_holds, Or.inl q970, by decide, by decide, by decide +kernel, by decide⟩
theorem gua_X6_31_15 : InhAt RX6 31 15 ⟨"PuzzleWed$Condition", "holds", "(LPuzzleWed$Asked;)I"⟩ m_X15_holds 1 := ⟨go_15, "PuzzleWed$Condition", q969, q971, q1007, q1008, q129, ci_X15_holds, Or.inl q970, by decide, by decide, by decide +kernel, by decide⟩
theorem gua_X6_31_16 : InhAt RX6 31 16 ⟨"PuzzleWed$Condition", "holds", "(LPuzzleWed$Asked;)I"⟩ m_X16_holds 1 := ⟨go_16, "PuzzleWed$Condition", q969, q971, q972, q973, q130, ci_X16_holds, Or.inl q970, by decide, by decide, by decide +kernel, by decide⟩
theorem gua_X6_35_10 : InhAt RX6 35 10 ⟨"PuzzleWed$Sum", "told", "(LPuzzleWed$Asked;)I"⟩ m_X9_told 1 := ⟨go_10, "PuzzleWed$Sum", q1015, q1017, q1020, q1016, q123, ci_X9_told, Or.inr rfl, by decide, by decide, by decide +kernel, by decide⟩
theorem gua_X6_35_11 : InhAt RX6 35 11 ⟨"PuzzleWed$Sum", "told", "(LPuzzleWed$Asked;)I"⟩ m_X9_told 1 := ⟨go_11, "PuzzleWed$Sum", q1015, q1017, q1019, q1016, q123, ci_X9_told, Or.inr rfl, by decide, by decide, by decide +kernel, by decide⟩
theorem gua_X6_35_12 : InhAt RX6 35 12 ⟨"PuzzleWed$Sum", "told", "(LPuzzleWed$Asked;)I"⟩ m_X9_told 1 := ⟨go_12, "PuzzleWed$Sum", q1015, q1017, q1018, q1016, q123, ci_X9_told, Or.inr rfl, by decide, by decide, by decide +kernel, by decide⟩
theorem gsa_X7_97 : StatAt RX7 97 m_X7_isTwelve 1 := ⟨q1394, q1395, q115, ci_X7_isTwelve, ⟨by decide, by decide, by decide +kernel⟩, by decide⟩
theorem gva_X7_105_7 : VirtAt RX7 105 7 m_X7_isPerson 1 := ⟨go_7, q1397, q1399, qs41, q115, ci_X7_isPerson, rfl, ⟨by decide, by decide, by decide +kernel⟩, by decide⟩
theorem gsa_X7_111 : StatAt RX7 111 m_X7_in 3 := ⟨q1404, q1405, q115, ci_X7_in, ⟨by decide, by decide, by decide +kernel⟩, by decide⟩
theorem gsa_X7_101 : StatAt RX7 101 m_X7_has 2 := ⟨q1401, q1402, q115, ci_X7_has, ⟨by decide, by decide, by decide +kernel⟩, by decide⟩
theorem gva_X7_108_7 : VirtAt RX7 108 7 m_X7_lives 1 := ⟨go_7, q1415, q1417, qs42, q115, ci_X7_lives, rfl, ⟨by decide, by decide, by decide +kernel⟩, by decide⟩
theorem gva_X7_115_7 : VirtAt RX7 115 7 m_X7_parts 1 := ⟨go_7, q1419, q1421, qs43, q115, ci_X7_parts, rfl, ⟨by decide, by decide, by decide +kernel⟩, by decide⟩
theorem gva_X7_119_7 : VirtAt RX7 119 7 m_X7_isFree 1 := ⟨go_7, q1427, q1429, qs44, q115, ci_X7_isFree, rfl, ⟨by decide, by decide, by decide +kernel⟩, by decide⟩
theorem gva_X7_122_7 : VirtAt RX7 122 7 m_X7_wedsTwo 2 := ⟨go_7, q1431, q1433, qs45, q115, ci_X7_wedsTwo, rfl, ⟨by decide, by decide, by decide +kernel⟩, by decide⟩
theorem gva_X7_130_7 : VirtAt RX7 130 7 m_X7_types 1 := ⟨go_7, q1439, q1441, qs46, q115, ci_X7_types, rfl, ⟨by decide, by decide, by decide +kernel⟩, by decide⟩
theorem gva_X7_219_7 : VirtAt RX7 219 7 m_X7_readsClause 0 := ⟨go_7, q1447, q1449, qs47, q115, ci_X7_readsClause, rfl, ⟨by decide, by decide, by decide +kernel⟩, by decide⟩
theorem gva_X7_222_7 : VirtAt RX7 222 7 m_X7_takes 1 := ⟨go_7, q1525, q1527, qs64, q115, ci_X7_takes, rfl, ⟨by decide, by decide, by decide +kernel⟩, by decide⟩
theorem gva_X7_139_7 : VirtAt RX7 139 7 m_X7_here 0 := ⟨go_7, q1451, q1453, qs48, q115, ci_X7_here, rfl, ⟨by decide, by decide, by decide +kernel⟩, by decide⟩
theorem gsa_X7_210 : StatAt RX7 210 m_X7_isClause 1 := ⟨q1455, q1456, q115, ci_X7_isClause, ⟨by decide, by decide, by decide +kernel⟩, by decide⟩
theorem gva_X7_146_7 : VirtAt RX7 146 7 m_X7_wrongAt 2 := ⟨go_7, q1458, q1460, qs49, q115, ci_X7_wrongAt, rfl, ⟨by decide, by decide, by decide +kernel⟩, by decide⟩
theorem gva_X7_195_7 : VirtAt RX7 195 7 m_X7_readsSum 0 := ⟨go_7, q1462, q1464, qs50, q115, ci_X7_readsSum, rfl, ⟨by decide, by decide, by decide +kernel⟩, by decide⟩
theorem gva_X7_216_7 : VirtAt RX7 216 7 m_X7_readsCondition 0 := ⟨go_7, q1505, q1507, qs59, q115, ci_X7_readsCondition, rfl, ⟨by decide, by decide, by decide +kernel⟩, by decide⟩
theorem gva_X7_182_7 : VirtAt RX7 182 7 m_X7_readsFactor 0 := ⟨go_7, q1466, q1468, qs51, q115, ci_X7_readsFactor, rfl, ⟨by decide, by decide, by decide +kernel⟩, by decide⟩
theorem gsa_X7_185 : StatAt RX7 185 m_X7_sumSign 1 := ⟨q1490, q1491, q115, ci_X7_sumSign, ⟨by decide, by decide, by decide +kernel⟩, by decide⟩
theorem gva_X7_188_7 : VirtAt RX7 188 7 m_X7_closesSums 1 := ⟨go_7, q1493, q1495, qs56, q115, ci_X7_closesSums, rfl, ⟨by decide, by decide, by decide +kernel⟩, by decide⟩
theorem gva_X7_192_7 : VirtAt RX7 192 7 m_X7_hasOpenSum 1 := ⟨go_7, q1501, q1503, qs58, q115, ci_X7_hasOpenSum, rfl, ⟨by decide, by decide, by decide +kernel⟩, by decide⟩
theorem gva_X7_172_7 : VirtAt RX7 172 7 m_X7_opens 1 := ⟨go_7, q1470, q1472, qs52, q115, ci_X7_opens, rfl, ⟨by decide, by decide, by decide +kernel⟩, by decide⟩
theorem gva_X7_152_7 : VirtAt RX7 152 7 m_X7_isDigit 0 := ⟨go_7, q1475, q1477, qs53, q115, ci_X7_isDigit, rfl, ⟨by decide, by decide, by decide +kernel⟩, by decide⟩
theorem gva_X7_175_7 : VirtAt RX7 175 7 m_X7_readsNumber 0 := ⟨go_7, q1479, q1481, qs54, q115, ci_X7_readsNumber, rfl, ⟨by decide, by decide, by decide +kernel⟩, by decide⟩
theorem gva_X7_169_7 : VirtAt RX7 169 7 m_X7_notes 2 := ⟨go_7, q1483, q1485, qs55, q115, ci_X7_notes, rfl, ⟨by decide, by decide, by decide +kernel⟩, by decide⟩
theorem gsa_X7_178 : StatAt RX7 178 m_X7_factOf 1 := ⟨q1487, q1488, q115, ci_X7_factOf, ⟨by decide, by decide, by decide +kernel⟩, by decide⟩
theorem gva_X7_166_7 : VirtAt RX7 166 7 m_X7_waitTop 0 := ⟨go_7, q1497, q1499, qs57, q115, ci_X7_waitTop, rfl, ⟨by decide, by decide, by decide +kernel⟩, by decide⟩
theorem gva_X7_201_7 : VirtAt RX7 201 7 m_X7_readsCompared 0 := ⟨go_7, q1509, q1511, qs60, q115, ci_X7_readsCompared, rfl, ⟨by decide, by decide, by decide +kernel⟩, by decide⟩
theorem gva_X7_204_7 : VirtAt RX7 204 7 m_X7_lands 1 := ⟨go_7, q1517, q1519, qs62, q115, ci_X7_lands, rfl, ⟨by decide, by decide, by decide +kernel⟩, by decide⟩
theorem gva_X7_198_7 : VirtAt RX7 198 7 m_X7_endsPiece 0 := ⟨go_7, q1513, q1515, qs61, q115, ci_X7_endsPiece, rfl, ⟨by decide, by decide, by decide +kernel⟩, by decide⟩
theorem gva_X7_207_7 : VirtAt RX7 207 7 m_X7_jumps 1 := ⟨go_7, q1521, q1523, qs63, q115, ci_X7_jumps, rfl, ⟨by decide, by decide, by decide +kernel⟩, by decide⟩
theorem gva_X7_271_7 : VirtAt RX7 271 7 m_X7_readsHeight 0 := ⟨go_7, q1533, q1535, qs65, q115, ci_X7_readsHeight, rfl, ⟨by decide, by decide, by decide +kernel⟩, by decide⟩
theorem gsa_X7_239 : StatAt RX7 239 m_X7_size 1 := ⟨q1537, q1538, q115, ci_X7_size, ⟨by decide, by decide, by decide +kernel⟩, by decide⟩
theorem gva_X7_277_7 : VirtAt RX7 277 7 m_X7_readsStop 0 := ⟨go_7, q1544, q1546, qs66, q115, ci_X7_readsStop, rfl, ⟨by decide, by decide, by decide +kernel⟩, by decide⟩
theorem gva_X7_314_7 : VirtAt RX7 314 7 m_X7_daysGo 1 := ⟨go_7, q1552, q1554, qs67, q115, ci_X7_daysGo, rfl, ⟨by decide, by decide, by decide +kernel⟩, by decide⟩
theorem gva_X7_305_7 : VirtAt RX7 305 7 m_X7_travels 1 := ⟨go_7, q1556, q1558, qs68, q115, ci_X7_travels, rfl, ⟨by decide, by decide, by decide +kernel⟩, by decide⟩
theorem gva_X7_308_7 : VirtAt RX7 308 7 m_X7_triesIn 2 := ⟨go_7, q1560, q1562, qs69, q115, ci_X7_triesIn, rfl, ⟨by decide, by decide, by decide +kernel⟩, by decide⟩
theorem gva_X7_311_7 : VirtAt RX7 311 7 m_X7_creak 1 := ⟨go_7, q1621, q1623, qs81, q115, ci_X7_creak, rfl, ⟨by decide, by decide, by decide +kernel⟩, by decide⟩
theorem gva_X7_283_7 : VirtAt RX7 283 7 m_X7_haveTried 2 := ⟨go_7, q1564, q1566, qs70, q115, ci_X7_haveTried, rfl, ⟨by decide, by decide, by decide +kernel⟩, by decide⟩
theorem gva_X7_286_7 : VirtAt RX7 286 7 m_X7_fit 2 := ⟨go_7, q1568, q1570, qs71, q115, ci_X7_fit, rfl, ⟨by decide, by decide, by decide +kernel⟩, by decide⟩
theorem gva_X7_292_7 : VirtAt RX7 292 7 m_X7_wearsBy 2 := ⟨go_7, q1613, q1615, qs79, q115, ci_X7_wearsBy, rfl, ⟨by decide, by decide, by decide +kernel⟩, by decide⟩
theorem gva_X7_295_7 : VirtAt RX7 295 7 m_X7_wearsAll 2 := ⟨go_7, q1617, q1619, qs80, q115, ci_X7_wearsAll, rfl, ⟨by decide, by decide, by decide +kernel⟩, by decide⟩
theorem gva_X7_262_7 : VirtAt RX7 262 7 m_X7_slackBy 2 := ⟨go_7, q1572, q1574, qs72, q115, ci_X7_slackBy, rfl, ⟨by decide, by decide, by decide +kernel⟩, by decide⟩
theorem gva_X7_265_7 : VirtAt RX7 265 7 m_X7_allowed 2 := ⟨go_7, q1591, q1593, qs75, q115, ci_X7_allowed, rfl, ⟨by decide, by decide, by decide +kernel⟩, by decide⟩
theorem gva_X7_246_7 : VirtAt RX7 246 7 m_X7_slackOf 2 := ⟨go_7, q1577, q1579, qs73, q115, ci_X7_slackOf, rfl, ⟨by decide, by decide, by decide +kernel⟩, by decide⟩
theorem gsa_X7_249 : StatAt RX7 249 m_X7_min 2 := ⟨q1588, q1589, q115, ci_X7_min, ⟨by decide, by decide, by decide +kernel⟩, by decide⟩
theorem gva_X7_236_7 : VirtAt RX7 236 7 m_X7_heightOf 2 := ⟨go_7, q1581, q1583, qs74, q115, ci_X7_heightOf, rfl, ⟨by decide, by decide, by decide +kernel⟩, by decide⟩
theorem gsa_X7_242 : StatAt RX7 242 m_X7_max 2 := ⟨q1585, q1586, q115, ci_X7_max, ⟨by decide, by decide, by decide +kernel⟩, by decide⟩
theorem gva_X7_255_7 : VirtAt RX7 255 7 m_X7_feels 3 := ⟨go_7, q1595, q1597, qs76, q115, ci_X7_feels, rfl, ⟨by decide, by decide, by decide +kernel⟩, by decide⟩
theorem gva_X7_259_7 : VirtAt RX7 259 7 m_X7_byLaw 2 := ⟨go_7, q1602, q1604, qs77, q115, ci_X7_byLaw, rfl, ⟨by decide, by decide, by decide +kernel⟩, by decide⟩
theorem gsa_X7_252 : StatAt RX7 252 m_X7_bits 1 := ⟨q1599, q1600, q115, ci_X7_bits, ⟨by decide, by decide, by decide +kernel⟩, by decide⟩
theorem gva_X7_232_7 : VirtAt RX7 232 7 m_X7_comesTo 2 := ⟨go_7, q1606, q1608, qs78, q115, ci_X7_comesTo, rfl, ⟨by decide, by decide, by decide +kernel⟩, by decide⟩
theorem gsa_X7_228 : StatAt RX7 228 m_X7_reckon 3 := ⟨q1610, q1611, q115, ci_X7_reckon, ⟨by decide, by decide, by decide +kernel⟩, by decide⟩
theorem gva_X7_299_7 : VirtAt RX7 299 7 m_X7_draws 0 := ⟨go_7, q1625, q1627, qs82, q115, ci_X7_draws, rfl, ⟨by decide, by decide, by decide +kernel⟩, by decide⟩
theorem gsa_X7_317 : StatAt RX7 317 m_X7_copiesRow 2 := ⟨q1634, q1635, q115, ci_X7_copiesRow, ⟨by decide, by decide, by decide +kernel⟩, by decide⟩
theorem gva_X7_321_7 : VirtAt RX7 321 7 m_X7_wedTwos 0 := ⟨go_7, q1637, q1639, qs83, q115, ci_X7_wedTwos, rfl, ⟨by decide, by decide, by decide +kernel⟩, by decide⟩
theorem gva_X7_324_7 : VirtAt RX7 324 7 m_X7_fitting 1 := ⟨go_7, q1645, q1647, qs84, q115, ci_X7_fitting, rfl, ⟨by decide, by decide, by decide +kernel⟩, by decide⟩
theorem gva_X7_327_7 : VirtAt RX7 327 7 m_X7_likes 2 := ⟨go_7, q1657, q1659, qs85, q115, ci_X7_likes, rfl, ⟨by decide, by decide, by decide +kernel⟩, by decide⟩
theorem gva_X7_330_7 : VirtAt RX7 330 7 m_X7_laysFits 0 := ⟨go_7, q1665, q1667, qs86, q115, ci_X7_laysFits, rfl, ⟨by decide, by decide, by decide +kernel⟩, by decide⟩
theorem gva_X7_334_7 : VirtAt RX7 334 7 m_X7_isOne 2 := ⟨go_7, q1673, q1675, qs87, q115, ci_X7_isOne, rfl, ⟨by decide, by decide, by decide +kernel⟩, by decide⟩
theorem gva_X7_340_7 : VirtAt RX7 340 7 m_X7_laysMost 0 := ⟨go_7, q1677, q1679, qs88, q115, ci_X7_laysMost, rfl, ⟨by decide, by decide, by decide +kernel⟩, by decide⟩
theorem gva_X7_343_7 : VirtAt RX7 343 7 m_X7_getsBy 1 := ⟨go_7, q1686, q1688, qs90, q115, ci_X7_getsBy, rfl, ⟨by decide, by decide, by decide +kernel⟩, by decide⟩
theorem gva_X7_337_7 : VirtAt RX7 337 7 m_X7_mayGet 3 := ⟨go_7, q1682, q1684, qs89, q115, ci_X7_mayGet, rfl, ⟨by decide, by decide, by decide +kernel⟩, by decide⟩
theorem gva_X7_352_7 : VirtAt RX7 352 7 m_X7_laysStable 0 := ⟨go_7, q1694, q1696, qs91, q115, ci_X7_laysStable, rfl, ⟨by decide, by decide, by decide +kernel⟩, by decide⟩
theorem gva_X7_346_7 : VirtAt RX7 346 7 m_X7_nextAsked 1 := ⟨go_7, q1698, q1700, qs92, q115, ci_X7_nextAsked, rfl, ⟨by decide, by decide, by decide +kernel⟩, by decide⟩
theorem gva_X7_349_7 : VirtAt RX7 349 7 m_X7_keeps 2 := ⟨go_7, q1702, q1704, qs93, q115, ci_X7_keeps, rfl, ⟨by decide, by decide, by decide +kernel⟩, by decide⟩
theorem gva_X7_355_7 : VirtAt RX7 355 7 m_X7_likesWed 1 := ⟨go_7, q1710, q1712, qs94, q115, ci_X7_likesWed, rfl, ⟨by decide, by decide, by decide +kernel⟩, by decide⟩
theorem gva_X7_358_7 : VirtAt RX7 358 7 m_X7_areBounds 1 := ⟨go_7, q1718, q1720, qs95, q115, ci_X7_areBounds, rfl, ⟨by decide, by decide, by decide +kernel⟩, by decide⟩
theorem gva_X7_361_7 : VirtAt RX7 361 7 m_X7_readsRow 2 := ⟨go_7, q1722, q1724, qs96, q115, ci_X7_readsRow, rfl, ⟨by decide, by decide, by decide +kernel⟩, by decide⟩
theorem gva_X7_364_7 : VirtAt RX7 364 7 m_X7_sumBy 1 := ⟨go_7, q1726, q1728, qs97, q115, ci_X7_sumBy, rfl, ⟨by decide, by decide, by decide +kernel⟩, by decide⟩
theorem gsa_X7_367 : StatAt RX7 367 m_X7_gcd 2 := ⟨q1730, q1731, q115, ci_X7_gcd, ⟨by decide, by decide, by decide +kernel⟩, by decide⟩
theorem gva_X7_386_7 : VirtAt RX7 386 7 m_X7_laysWork 1 := ⟨go_7, q1737, q1739, qs98, q115, ci_X7_laysWork, rfl, ⟨by decide, by decide, by decide +kernel⟩, by decide⟩
theorem gva_X7_376_7 : VirtAt RX7 376 7 m_X7_workAt 3 := ⟨go_7, q1745, q1747, qs100, q115, ci_X7_workAt, rfl, ⟨by decide, by decide, by decide +kernel⟩, by decide⟩
theorem gva_X7_389_7 : VirtAt RX7 389 7 m_X7_laysSanded 2 := ⟨go_7, q1749, q1751, qs101, q115, ci_X7_laysSanded, rfl, ⟨by decide, by decide, by decide +kernel⟩, by decide⟩
theorem gva_X7_392_7 : VirtAt RX7 392 7 m_X7_slackOfSanded 1 := ⟨go_7, q1753, q1755, qs102, q115, ci_X7_slackOfSanded, rfl, ⟨by decide, by decide, by decide +kernel⟩, by decide⟩
theorem gva_X7_382_7 : VirtAt RX7 382 7 m_X7_workBy 4 := ⟨go_7, q1741, q1743, qs99, q115, ci_X7_workBy, rfl, ⟨by decide, by decide, by decide +kernel⟩, by decide⟩
theorem gva_X7_395_7 : VirtAt RX7 395 7 m_X7_slackSteamed 4 := ⟨go_7, q1761, q1763, qs103, q115, ci_X7_slackSteamed, rfl, ⟨by decide, by decide, by decide +kernel⟩, by decide⟩
theorem gva_X7_401_7 : VirtAt RX7 401 7 m_X7_makesAll 2 := ⟨go_7, q1773, q1775, qs104, q115, ci_X7_makesAll, rfl, ⟨by decide, by decide, by decide +kernel⟩, by decide⟩
theorem gva_X7_398_7 : VirtAt RX7 398 7 m_X7_makes 3 := ⟨go_7, q1777, q1779, qs105, q115, ci_X7_makes, rfl, ⟨by decide, by decide, by decide +kernel⟩, by decide⟩
theorem gva_X7_404_7 : VirtAt RX7 404 7 m_X7_areSame 2 := ⟨go_7, q1785, q1787, qs106, q115, ci_X7_areSame, rfl, ⟨by decide, by decide, by decide +kernel⟩, by decide⟩
theorem gia_X8_17 : InitAt RX8 17 m_X6_init 0 := ⟨Or.inr ⟨_, q459⟩, q298, q114, ci_X6_init, rfl, rfl, ⟨by decide, by decide, by decide +kernel⟩, by decide⟩
theorem gva_X8_43_8 : VirtAt RX8 43 8 m_X8_isGood 0 := ⟨go_8, q487, q489, qs1, q116, ci_X8_isGood, rfl, ⟨by decide, by decide, by decide +kernel⟩, by decide⟩
theorem gva_X8_146_8 : VirtAt RX8 146 8 m_X8_clause 0 := ⟨go_8, q491, q493, qs2, q116, ci_X8_clause, rfl, ⟨by decide, by decide, by decide +kernel⟩, by decide⟩
theorem gva_X8_64_8 : VirtAt RX8 64 8 m_X8_must 1 := ⟨go_8, q608, q610, qs9, q116, ci_X8_must, rfl, ⟨by decide, by decide, by decide +kernel⟩, by decide⟩
theorem gva_X8_39_8 : VirtAt RX8 39 8 m_X8_here 0 := ⟨go_8, q495, q497, qs3, q116, ci_X8_here, rfl, ⟨by decide, by decide, by decide +kernel⟩, by decide⟩
theorem gva_X8_50_8 : VirtAt RX8 50 8 m_X8_bad 2 := ⟨go_8, q586, q588, qs4, q116, ci_X8_bad, rfl, ⟨by decide, by decide, by decide +kernel⟩, by decide⟩
theorem gva_X8_60_8 : VirtAt RX8 60 8 m_X8_sum 0 := ⟨go_8, q590, q592, qs5, q116, ci_X8_sum, rfl, ⟨by decide, by decide, by decide +kernel⟩, by decide⟩
theorem gva_X8_110_8 : VirtAt RX8 110 8 m_X8_condition 0 := ⟨go_8, q659, q661, qs12, q116, ci_X8_condition, rfl, ⟨by decide, by decide, by decide +kernel⟩, by decide⟩
theorem gva_X8_98_8 : VirtAt RX8 98 8 m_X8_product 0 := ⟨go_8, q596, q598, qs6, q116, ci_X8_product, rfl, ⟨by decide, by decide, by decide +kernel⟩, by decide⟩
theorem gia_X8_91 : InitAt RX8 91 m_X10_init 2 := ⟨Or.inl q644, q645, q124, ci_X10_init, rfl, rfl, ⟨by decide, by decide, by decide +kernel⟩, by decide⟩
theorem gva_X8_88_8 : VirtAt RX8 88 8 m_X8_factor 0 := ⟨go_8, q600, q602, qs7, q116, ci_X8_factor, rfl, ⟨by decide, by decide, by decide +kernel⟩, by decide⟩
theorem gva_X8_57_8 : VirtAt RX8 57 8 m_X8_opens 0 := ⟨go_8, q604, q606, qs8, q116, ci_X8_opens, rfl, ⟨by decide, by decide, by decide +kernel⟩, by decide⟩
theorem gva_X8_47_8 : VirtAt RX8 47 8 m_X8_seesDigit 0 := ⟨go_8, q612, q614, qs10, q116, ci_X8_seesDigit, rfl, ⟨by decide, by decide, by decide +kernel⟩, by decide⟩
theorem gva_X8_70_8 : VirtAt RX8 70 8 m_X8_number 0 := ⟨go_8, q618, q620, qs11, q116, ci_X8_number, rfl, ⟨by decide, by decide, by decide +kernel⟩, by decide⟩
theorem gia_X8_73 : InitAt RX8 73 m_X11_init 1 := ⟨Or.inl q622, q623, q125, ci_X11_init, rfl, rfl, ⟨by decide, by decide, by decide +kernel⟩, by decide⟩
theorem gia_X8_85 : InitAt RX8 85 m_X12_init 1 := ⟨Or.inl q636, q637, q126, ci_X12_init, rfl, rfl, ⟨by decide, by decide, by decide +kernel⟩, by decide⟩
theorem gva_X8_126_8 : VirtAt RX8 126 8 m_X8_pieces 0 := ⟨go_8, q665, q667, qs13, q116, ci_X8_pieces, rfl, ⟨by decide, by decide, by decide +kernel⟩, by decide⟩
theorem gia_X8_120 : InitAt RX8 120 m_X14_init 2 := ⟨Or.inl q702, q703, q128, ci_X14_init, rfl, rfl, ⟨by decide, by decide, by decide +kernel⟩, by decide⟩
theorem gva_X8_101_8 : VirtAt RX8 101 8 m_X8_piece 0 := ⟨go_8, q669, q671, qs14, q116, ci_X8_piece, rfl, ⟨by decide, by decide, by decide +kernel⟩, by decide⟩
theorem gia_X8_107 : InitAt RX8 107 m_X15_init 1 := ⟨Or.inl q675, q676, q129, ci_X15_init, rfl, rfl, ⟨by decide, by decide, by decide +kernel⟩, by decide⟩
theorem gia_X8_115 : InitAt RX8 115 m_X16_init 3 := ⟨Or.inl q688, q689, q130, ci_X16_init, rfl, rfl, ⟨by decide, by decide, by decide +kernel⟩, by decide⟩
theorem gua_X9_13_10 : InhAt RX9 13 10 ⟨"PuzzleWed$Sum", "worth", "(LPuzzleWed$Asked;)I"⟩ m_X10_worth 1 := ⟨go_10, "PuzzleWed$Sum", q1022, q977, q1000, q1001, q124, ci_X10_worth, Or.inl q976, by decide, by decide, by decide +kernel, by decide⟩
theorem gua_X9_13_11 : InhAt RX9 13 11 ⟨"PuzzleWed$Sum", "worth", "(LPuzzleWed$Asked;)I"⟩ m_X11_worth 1 := ⟨go_11, "PuzzleWed$Sum", q1022, q977, q997, q998, q125, ci_X11_worth, Or.inl q976, by decide, by decide, by decide +kernel, by decide⟩
theorem gua_X9_13_12 : InhAt RX9 13 12 ⟨"PuzzleWed$Sum", "worth", "(LPuzzleWed$Asked;)I"⟩ m_X12_worth 1 := ⟨go_12, "PuzzleWed$Sum", q1022, q977, q978, q979, q126, ci_X12_worth, Or.inl q976, by decide, by decide, by decide +kernel, by decide⟩
