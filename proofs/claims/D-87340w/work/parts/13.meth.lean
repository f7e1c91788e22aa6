set_option maxRecDepth 100000
theorem fX0_10_0 : tv_fl RX0 10 0 0 := ⟨_, _, _, "TileOffice", rfl, by decide, Or.inl q144, Or.inl rfl⟩
theorem pX0_10_0 : tv_fp RX0 10 0 0 (.object "java/util/ArrayList") true := ⟨_, _, _, "TileOffice", rfl, by decide, Or.inl q144, Or.inl rfl, rfl, (fun _ => rfl), by decide +kernel⟩
theorem fX0_16_0 : tv_fl RX0 16 0 1 := ⟨_, _, _, "TileOffice", rfl, by decide, Or.inl q147, Or.inl rfl⟩
theorem pX0_16_0 : tv_fp RX0 16 0 1 (.object "java/util/ArrayList") true := ⟨_, _, _, "TileOffice", rfl, by decide, Or.inl q147, Or.inl rfl, rfl, (fun _ => rfl), by decide +kernel⟩
theorem fX0_19_0 : tv_fl RX0 19 0 2 := ⟨_, _, _, "TileOffice", rfl, by decide, Or.inl q148, Or.inl rfl⟩
theorem pX0_19_0 : tv_fp RX0 19 0 2 (.object "java/util/ArrayList") true := ⟨_, _, _, "TileOffice", rfl, by decide, Or.inl q148, Or.inl rfl, rfl, (fun _ => rfl), by decide +kernel⟩
theorem fX0_22_0 : tv_fl RX0 22 0 3 := ⟨_, _, _, "TileOffice", rfl, by decide, Or.inl q149, Or.inl rfl⟩
theorem pX0_22_0 : tv_fp RX0 22 0 3 (.object "java/util/ArrayList") true := ⟨_, _, _, "TileOffice", rfl, by decide, Or.inl q149, Or.inl rfl, rfl, (fun _ => rfl), by decide +kernel⟩
theorem fX0_27_0 : tv_fl RX0 27 0 4 := ⟨_, _, _, "TileOffice", rfl, by decide, Or.inl q150, Or.inl rfl⟩
theorem pX0_27_0 : tv_fp RX0 27 0 4 (.array (.object "TileOffice$Change")) true := ⟨_, _, _, "TileOffice", rfl, by decide, Or.inl q150, Or.inl rfl, rfl, (fun _ => rfl), by decide +kernel⟩
theorem fX0_122_0 : tv_fl RX0 122 0 5 := ⟨_, _, _, "TileOffice", rfl, by decide, Or.inl q151, Or.inl rfl⟩
theorem pX0_122_0 : tv_fp RX0 122 0 5 .int false := ⟨_, _, _, "TileOffice", rfl, by decide, Or.inl q151, Or.inl rfl, rfl, (fun h => nomatch h), by decide +kernel⟩
theorem fX0_135_0 : tv_fl RX0 135 0 6 := ⟨_, _, _, "TileOffice", rfl, by decide, Or.inl q152, Or.inl rfl⟩
theorem pX0_135_0 : tv_fp RX0 135 0 6 .int false := ⟨_, _, _, "TileOffice", rfl, by decide, Or.inl q152, Or.inl rfl, rfl, (fun h => nomatch h), by decide +kernel⟩
theorem fX0_367_0 : tv_fl RX0 367 0 7 := ⟨_, _, _, "TileOffice", rfl, by decide, Or.inl q154, Or.inl rfl⟩
theorem pX0_367_0 : tv_fp RX0 367 0 7 .int false := ⟨_, _, _, "TileOffice", rfl, by decide, Or.inl q154, Or.inl rfl, rfl, (fun h => nomatch h), by decide +kernel⟩
theorem fX0_203_0 : tv_fl RX0 203 0 8 := ⟨_, _, _, "TileOffice", rfl, by decide, Or.inl q155, Or.inl rfl⟩
theorem pX0_203_0 : tv_fp RX0 203 0 8 (.object "TileOffice$Block") false := ⟨_, _, _, "TileOffice", rfl, by decide, Or.inl q155, Or.inl rfl, rfl, (fun h => nomatch h), by decide +kernel⟩
theorem fX0_33_0 : tv_fl RX0 33 0 9 := ⟨_, _, _, "TileOffice", rfl, by decide, Or.inl q156, Or.inl rfl⟩
theorem pX0_33_0 : tv_fp RX0 33 0 9 (.array (.array .boolean)) true := ⟨_, _, _, "TileOffice", rfl, by decide, Or.inl q156, Or.inl rfl, rfl, (fun _ => rfl), by decide +kernel⟩
theorem fX0_36_0 : tv_fl RX0 36 0 10 := ⟨_, _, _, "TileOffice", rfl, by decide, Or.inl q157, Or.inl rfl⟩
theorem pX0_36_0 : tv_fp RX0 36 0 10 (.array (.array .boolean)) true := ⟨_, _, _, "TileOffice", rfl, by decide, Or.inl q157, Or.inl rfl, rfl, (fun _ => rfl), by decide +kernel⟩
theorem fX0_41_0 : tv_fl RX0 41 0 11 := ⟨_, _, _, "TileOffice", rfl, by decide, Or.inl q158, Or.inl rfl⟩
theorem pX0_41_0 : tv_fp RX0 41 0 11 (.array (.array .long)) true := ⟨_, _, _, "TileOffice", rfl, by decide, Or.inl q158, Or.inl rfl, rfl, (fun _ => rfl), by decide +kernel⟩
theorem fX0_44_0 : tv_fl RX0 44 0 12 := ⟨_, _, _, "TileOffice", rfl, by decide, Or.inl q159, Or.inl rfl⟩
theorem pX0_44_0 : tv_fp RX0 44 0 12 (.array (.array .boolean)) true := ⟨_, _, _, "TileOffice", rfl, by decide, Or.inl q159, Or.inl rfl, rfl, (fun _ => rfl), by decide +kernel⟩
theorem fX0_47_0 : tv_fl RX0 47 0 13 := ⟨_, _, _, "TileOffice", rfl, by decide, Or.inl q160, Or.inl rfl⟩
theorem pX0_47_0 : tv_fp RX0 47 0 13 (.array .long) true := ⟨_, _, _, "TileOffice", rfl, by decide, Or.inl q160, Or.inl rfl, rfl, (fun _ => rfl), by decide +kernel⟩
theorem fX0_51_0 : tv_fl RX0 51 0 14 := ⟨_, _, _, "TileOffice", rfl, by decide, Or.inl q161, Or.inl rfl⟩
theorem pX0_51_0 : tv_fp RX0 51 0 14 (.array .long) true := ⟨_, _, _, "TileOffice", rfl, by decide, Or.inl q161, Or.inl rfl, rfl, (fun _ => rfl), by decide +kernel⟩
theorem fX0_94_2 : tv_fl RX0 94 2 0 := ⟨_, _, _, "TileOffice$Tile", rfl, by decide, Or.inl q237, Or.inl rfl⟩
theorem fX0_82_2 : tv_fl RX0 82 2 4 := ⟨_, _, _, "TileOffice$Tile", rfl, by decide, Or.inl q243, Or.inl rfl⟩
theorem fX0_140_3 : tv_fl RX0 140 3 0 := ⟨_, _, _, "TileOffice$Pattern", rfl, by decide, Or.inl q365, Or.inl rfl⟩
theorem pX0_140_3 : tv_fp RX0 140 3 0 (.object "java/util/ArrayList") false := ⟨_, _, _, "TileOffice$Pattern", rfl, by decide, Or.inl q365, Or.inl rfl, rfl, (fun h => nomatch h), by decide +kernel⟩
theorem fX0_362_4 : tv_fl RX0 362 4 0 := ⟨_, _, _, "TileOffice$Change", rfl, by decide, Or.inl q417, Or.inl rfl⟩
theorem fX0_366_4 : tv_fl RX0 366 4 1 := ⟨_, _, _, "TileOffice$Change", rfl, by decide, Or.inl q419, Or.inl rfl⟩
theorem fX0_187_5 : tv_fl RX0 187 5 0 := ⟨_, _, _, "TileOffice$Row", rfl, by decide, Or.inl q433, Or.inl rfl⟩
theorem fX0_194_5 : tv_fl RX0 194 5 1 := ⟨_, _, _, "TileOffice$Row", rfl, by decide, Or.inl q435, Or.inl rfl⟩
theorem fX0_190_5 : tv_fl RX0 190 5 2 := ⟨_, _, _, "TileOffice$Row", rfl, by decide, Or.inl q437, Or.inl rfl⟩
theorem fX0_181_5 : tv_fl RX0 181 5 3 := ⟨_, _, _, "TileOffice$Row", rfl, by decide, Or.inl q440, Or.inl rfl⟩
theorem fX0_207_6 : tv_fl RX0 207 6 0 := ⟨_, _, _, "TileOffice$Block", rfl, by decide, Or.inl q560, Or.inl rfl⟩
theorem fX0_210_6 : tv_fl RX0 210 6 1 := ⟨_, _, _, "TileOffice$Block", rfl, by decide, Or.inl q562, Or.inl rfl⟩
theorem fX0_212_6 : tv_fl RX0 212 6 2 := ⟨_, _, _, "TileOffice$Block", rfl, by decide, Or.inl q564, Or.inl rfl⟩
theorem fX0_229_7 : tv_fl RX0 229 7 0 := ⟨_, _, _, "TileOffice$Rule", rfl, by decide, Or.inl q619, Or.inl rfl⟩
theorem fX0_231_7 : tv_fl RX0 231 7 1 := ⟨_, _, _, "TileOffice$Rule", rfl, by decide, Or.inl q621, Or.inl rfl⟩
theorem fX0_344_8 : tv_fl RX0 344 8 3 := ⟨_, _, _, "TileOffice$Floor", rfl, by decide, Or.inr ⟨_, q878⟩, Or.inl rfl⟩
abbrev mX0_init : tv_M := (cX0_init, 1, RX0, (Option.none : Option FieldType), true)
theorem tX0_init : tv_mt yX0_init mX0_init 0 := ⟨q108, q79, rfl, (fun _ => rfl), by decide +kernel, by decide +kernel, by decide⟩
abbrev mX0_named : tv_M := (cX0_named, 6, RX0, (Option.some FieldType.int), false)
theorem tX0_named : tv_mt yX0_named mX0_named 1 := ⟨q198, q79, rfl, (fun h => nomatch h), by decide +kernel, by decide +kernel, by decide⟩
abbrev mX0_letters : tv_M := (cX0_letters, 7, RX0, (Option.some FieldType.long), false)
theorem tX0_letters : tv_mt yX0_letters mX0_letters 1 := ⟨q201, q79, rfl, (fun h => nomatch h), by decide +kernel, by decide +kernel, by decide⟩
abbrev mX0_kind : tv_M := (cX0_kind, 11, RX0, (Option.some FieldType.int), false)
theorem tX0_kind : tv_mt yX0_kind mX0_kind 5 := ⟨q228, q79, rfl, (fun h => nomatch h), by decide +kernel, by decide +kernel, by decide⟩
abbrev mX0_edge : tv_M := (cX0_edge, 6, RX0, (Option.some FieldType.int), false)
theorem tX0_edge : tv_mt yX0_edge mX0_edge 3 := ⟨q318, q79, rfl, (fun h => nomatch h), by decide +kernel, by decide +kernel, by decide⟩
abbrev mX0_isKind : tv_M := (cX0_isKind, 2, RX0, (Option.some FieldType.boolean), false)
theorem tX0_isKind : tv_mt yX0_isKind mX0_isKind 1 := ⟨q322, q79, rfl, (fun h => nomatch h), by decide +kernel, by decide +kernel, by decide⟩
abbrev mX0_isMove : tv_M := (cX0_isMove, 1, RX0, (Option.some FieldType.boolean), false)
theorem tX0_isMove : tv_mt yX0_isMove mX0_isMove 1 := ⟨q325, q79, rfl, (fun h => nomatch h), by decide +kernel, by decide +kernel, by decide⟩
abbrev mX0_then : tv_M := (cX0_then, 3, RX0, (Option.some FieldType.int), false)
theorem tX0_then : tv_mt yX0_then mX0_then 2 := ⟨q347, q79, rfl, (fun h => nomatch h), by decide +kernel, by decide +kernel, by decide⟩
abbrev mX0_pattern : tv_M := (cX0_pattern, 1, RX0, (Option.some FieldType.int), false)
theorem tX0_pattern : tv_mt yX0_pattern mX0_pattern 0 := ⟨q354, q79, rfl, (fun h => nomatch h), by decide +kernel, by decide +kernel, by decide⟩
abbrev mX0_insert : tv_M := (cX0_insert, 6, RX0, (Option.some FieldType.boolean), false)
theorem tX0_insert : tv_mt yX0_insert mX0_insert 4 := ⟨q372, q79, rfl, (fun h => nomatch h), by decide +kernel, by decide +kernel, by decide⟩
abbrev mX0_pattern_2 : tv_M := (cX0_pattern_2, 2, RX0, (Option.some (FieldType.object "TileOffice$Pattern")), false)
theorem tX0_pattern_2 : tv_mt yX0_pattern_2 mX0_pattern_2 1 := ⟨q376, q79, rfl, (fun h => nomatch h), by decide +kernel, by decide +kernel, by decide⟩
abbrev mX0_canMake : tv_M := (cX0_canMake, 2, RX0, (Option.some FieldType.boolean), false)
theorem tX0_canMake : tv_mt yX0_canMake mX0_canMake 1 := ⟨q380, q79, rfl, (fun h => nomatch h), by decide +kernel, by decide +kernel, by decide⟩
abbrev mX0_keep : tv_M := (cX0_keep, 2, RX0, (Option.none : Option FieldType), false)
theorem tX0_keep : tv_mt yX0_keep mX0_keep 1 := ⟨q384, q79, rfl, (fun h => nomatch h), by decide +kernel, by decide +kernel, by decide⟩
abbrev mX0_remove : tv_M := (cX0_remove, 4, RX0, (Option.some FieldType.boolean), false)
theorem tX0_remove : tv_mt yX0_remove mX0_remove 2 := ⟨q464, q79, rfl, (fun h => nomatch h), by decide +kernel, by decide +kernel, by decide⟩
abbrev mX0_move : tv_M := (cX0_move, 5, RX0, (Option.some FieldType.boolean), false)
theorem tX0_move : tv_mt yX0_move mX0_move 3 := ⟨q483, q79, rfl, (fun h => nomatch h), by decide +kernel, by decide +kernel, by decide⟩
abbrev mX0_put : tv_M := (cX0_put, 8, RX0, (Option.some FieldType.boolean), false)
theorem tX0_put : tv_mt yX0_put mX0_put 5 := ⟨q487, q79, rfl, (fun h => nomatch h), by decide +kernel, by decide +kernel, by decide⟩
abbrev mX0_own : tv_M := (cX0_own, 4, RX0, (Option.some (FieldType.object "TileOffice$Row")), false)
theorem tX0_own : tv_mt yX0_own mX0_own 2 := ⟨q500, q79, rfl, (fun h => nomatch h), by decide +kernel, by decide +kernel, by decide⟩
abbrev mX0_shade : tv_M := (cX0_shade, 7, RX0, (Option.some FieldType.boolean), false)
theorem tX0_shade : tv_mt yX0_shade mX0_shade 4 := ⟨q527, q79, rfl, (fun h => nomatch h), by decide +kernel, by decide +kernel, by decide⟩
abbrev mX0_at : tv_M := (cX0_at, 8, RX0, (Option.some FieldType.int), false)
theorem tX0_at : tv_mt yX0_at mX0_at 4 := ⟨q531, q79, rfl, (fun h => nomatch h), by decide +kernel, by decide +kernel, by decide⟩
abbrev mX0_row : tv_M := (cX0_row, 9, RX0, (Option.some FieldType.int), false)
theorem tX0_row : tv_mt yX0_row mX0_row 3 := ⟨q535, q79, rfl, (fun h => nomatch h), by decide +kernel, by decide +kernel, by decide⟩
abbrev mX0_shares : tv_M := (cX0_shares, 8, RX0, (Option.some FieldType.boolean), false)
theorem tX0_shares : tv_mt yX0_shares mX0_shares 4 := ⟨q539, q79, rfl, (fun h => nomatch h), by decide +kernel, by decide +kernel, by decide⟩
abbrev mX0_copy : tv_M := (cX0_copy, 4, RX0, (Option.some FieldType.int), false)
theorem tX0_copy : tv_mt yX0_copy mX0_copy 1 := ⟨q543, q79, rfl, (fun h => nomatch h), by decide +kernel, by decide +kernel, by decide⟩
abbrev mX0_region : tv_M := (cX0_region, 11, RX0, (Option.some FieldType.int), false)
theorem tX0_region : tv_mt yX0_region mX0_region 5 := ⟨q548, q79, rfl, (fun h => nomatch h), by decide +kernel, by decide +kernel, by decide⟩
abbrev mX0_turn : tv_M := (cX0_turn, 2, RX0, (Option.some FieldType.boolean), false)
theorem tX0_turn : tv_mt yX0_turn mX0_turn 1 := ⟨q575, q79, rfl, (fun h => nomatch h), by decide +kernel, by decide +kernel, by decide⟩
abbrev mX0_paste : tv_M := (cX0_paste, 10, RX0, (Option.some FieldType.int), false)
theorem tX0_paste : tv_mt yX0_paste mX0_paste 3 := ⟨q603, q79, rfl, (fun h => nomatch h), by decide +kernel, by decide +kernel, by decide⟩
abbrev mX0_rule : tv_M := (cX0_rule, 3, RX0, (Option.some FieldType.int), false)
theorem tX0_rule : tv_mt yX0_rule mX0_rule 2 := ⟨q609, q79, rfl, (fun h => nomatch h), by decide +kernel, by decide +kernel, by decide⟩
abbrev mX0_becomes : tv_M := (cX0_becomes, 9, RX0, (Option.some FieldType.boolean), false)
theorem tX0_becomes : tv_mt yX0_becomes mX0_becomes 6 := ⟨q633, q79, rfl, (fun h => nomatch h), by decide +kernel, by decide +kernel, by decide⟩
abbrev mX0_rule_2 : tv_M := (cX0_rule_2, 2, RX0, (Option.some (FieldType.object "TileOffice$Rule")), false)
theorem tX0_rule_2 : tv_mt yX0_rule_2 mX0_rule_2 1 := ⟨q637, q79, rfl, (fun h => nomatch h), by decide +kernel, by decide +kernel, by decide⟩
abbrev mX0_grow : tv_M := (cX0_grow, 9, RX0, (Option.some FieldType.int), false)
theorem tX0_grow : tv_mt yX0_grow mX0_grow 3 := ⟨q646, q79, rfl, (fun h => nomatch h), by decide +kernel, by decide +kernel, by decide⟩
abbrev mX0_canGrow : tv_M := (cX0_canGrow, 10, RX0, (Option.some FieldType.boolean), false)
theorem tX0_canGrow : tv_mt yX0_canGrow mX0_canGrow 3 := ⟨q650, q79, rfl, (fun h => nomatch h), by decide +kernel, by decide +kernel, by decide⟩
abbrev mX0_isTurned : tv_M := (cX0_isTurned, 10, RX0, (Option.some FieldType.boolean), false)
theorem tX0_isTurned : tv_mt yX0_isTurned mX0_isTurned 3 := ⟨q659, q79, rfl, (fun h => nomatch h), by decide +kernel, by decide +kernel, by decide⟩
abbrev mX0_step : tv_M := (cX0_step, 7, RX0, (Option.none : Option FieldType), false)
theorem tX0_step : tv_mt yX0_step mX0_step 1 := ⟨q663, q79, rfl, (fun h => nomatch h), by decide +kernel, by decide +kernel, by decide⟩
abbrev mX0_grown : tv_M := (cX0_grown, 9, RX0, (Option.some (FieldType.object "java/util/ArrayList")), false)
theorem tX0_grown : tv_mt yX0_grown mX0_grown 2 := ⟨q670, q79, rfl, (fun h => nomatch h), by decide +kernel, by decide +kernel, by decide⟩
abbrev mX0_lay : tv_M := (cX0_lay, 13, RX0, (Option.none : Option FieldType), false)
theorem tX0_lay : tv_mt yX0_lay mX0_lay 6 := ⟨q674, q79, rfl, (fun h => nomatch h), by decide +kernel, by decide +kernel, by decide⟩
abbrev mX0_foretold : tv_M := (cX0_foretold, 8, RX0, (Option.some FieldType.long), false)
abbrev mX0_fillMatrix : tv_M := (cX0_fillMatrix, 12, RX0, (Option.none : Option FieldType), false)
theorem tX0_fillMatrix : tv_mt yX0_fillMatrix mX0_fillMatrix 1 := ⟨q685, q79, rfl, (fun h => nomatch h), by decide +kernel, by decide +kernel, by decide⟩
abbrev mX0_fillLeads : tv_M := (cX0_fillLeads, 7, RX0, (Option.none : Option FieldType), false)
theorem tX0_fillLeads : tv_mt yX0_fillLeads mX0_fillLeads 2 := ⟨q689, q79, rfl, (fun h => nomatch h), by decide +kernel, by decide +kernel, by decide⟩
abbrev mX0_multiply : tv_M := (cX0_multiply, 5, RX0, (Option.none : Option FieldType), false)
abbrev mX0_count : tv_M := (cX0_count, 10, RX0, (Option.some FieldType.int), false)
theorem tX0_count : tv_mt yX0_count mX0_count 2 := ⟨q800, q79, rfl, (fun h => nomatch h), by decide +kernel, by decide +kernel, by decide⟩
abbrev mX0_fits : tv_M := (cX0_fits, 11, RX0, (Option.some FieldType.int), false)
theorem tX0_fits : tv_mt yX0_fits mX0_fits 1 := ⟨q804, q79, rfl, (fun h => nomatch h), by decide +kernel, by decide +kernel, by decide⟩
abbrev mX0_fit : tv_M := (cX0_fit, 8, RX0, (Option.some FieldType.boolean), false)
theorem tX0_fit : tv_mt yX0_fit mX0_fit 5 := ⟨q808, q79, rfl, (fun h => nomatch h), by decide +kernel, by decide +kernel, by decide⟩
abbrev mX0_period : tv_M := (cX0_period, 5, RX0, (Option.some FieldType.int), false)
theorem tX0_period : tv_mt yX0_period mX0_period 2 := ⟨q812, q79, rfl, (fun h => nomatch h), by decide +kernel, by decide +kernel, by decide⟩
abbrev mX0_repeats : tv_M := (cX0_repeats, 8, RX0, (Option.some FieldType.boolean), false)
theorem tX0_repeats : tv_mt yX0_repeats mX0_repeats 3 := ⟨q815, q79, rfl, (fun h => nomatch h), by decide +kernel, by decide +kernel, by decide⟩
abbrev mX0_isAlike : tv_M := (cX0_isAlike, 4, RX0, (Option.some FieldType.boolean), false)
theorem tX0_isAlike : tv_mt yX0_isAlike mX0_isAlike 4 := ⟨q818, q79, rfl, (fun h => nomatch h), by decide +kernel, by decide +kernel, by decide⟩
abbrev mX0_kept : tv_M := (cX0_kept, 5, RX0, (Option.some FieldType.int), false)
theorem tX0_kept : tv_mt yX0_kept mX0_kept 1 := ⟨q822, q79, rfl, (fun h => nomatch h), by decide +kernel, by decide +kernel, by decide⟩
abbrev mX0_isMoved : tv_M := (cX0_isMoved, 7, RX0, (Option.some FieldType.boolean), false)
theorem tX0_isMoved : tv_mt yX0_isMoved mX0_isMoved 3 := ⟨q834, q79, rfl, (fun h => nomatch h), by decide +kernel, by decide +kernel, by decide⟩
abbrev mX0_high : tv_M := (cX0_high, 2, RX0, (Option.some FieldType.int), false)
theorem tX0_high : tv_mt yX0_high mX0_high 2 := ⟨q837, q79, rfl, (fun h => nomatch h), by decide +kernel, by decide +kernel, by decide⟩
abbrev mX0_wide : tv_M := (cX0_wide, 2, RX0, (Option.some FieldType.int), false)
theorem tX0_wide : tv_mt yX0_wide mX0_wide 2 := ⟨q844, q79, rfl, (fun h => nomatch h), by decide +kernel, by decide +kernel, by decide⟩
abbrev mX0_isMoved_2 : tv_M := (cX0_isMoved_2, 10, RX0, (Option.some FieldType.boolean), false)
theorem tX0_isMoved_2 : tv_mt yX0_isMoved_2 mX0_isMoved_2 6 := ⟨q848, q79, rfl, (fun h => nomatch h), by decide +kernel, by decide +kernel, by decide⟩
abbrev mX0_congruent : tv_M := (cX0_congruent, 6, RX0, (Option.some FieldType.int), false)
theorem tX0_congruent : tv_mt yX0_congruent mX0_congruent 2 := ⟨q852, q79, rfl, (fun h => nomatch h), by decide +kernel, by decide +kernel, by decide⟩
abbrev mX0_find : tv_M := (cX0_find, 10, RX0, (Option.some FieldType.int), false)
theorem tX0_find : tv_mt yX0_find mX0_find 3 := ⟨q856, q79, rfl, (fun h => nomatch h), by decide +kernel, by decide +kernel, by decide⟩
abbrev mX0_lies : tv_M := (cX0_lies, 12, RX0, (Option.some FieldType.boolean), false)
theorem tX0_lies : tv_mt yX0_lies mX0_lies 5 := ⟨q860, q79, rfl, (fun h => nomatch h), by decide +kernel, by decide +kernel, by decide⟩
abbrev mX0_floor : tv_M := (cX0_floor, 3, RX0, (Option.some FieldType.int), false)
theorem tX0_floor : tv_mt yX0_floor mX0_floor 2 := ⟨q864, q79, rfl, (fun h => nomatch h), by decide +kernel, by decide +kernel, by decide⟩
abbrev mX0_place : tv_M := (cX0_place, 7, RX0, (Option.some FieldType.boolean), false)
theorem tX0_place : tv_mt yX0_place mX0_place 5 := ⟨q939, q79, rfl, (fun h => nomatch h), by decide +kernel, by decide +kernel, by decide⟩
abbrev mX0_floor_2 : tv_M := (cX0_floor_2, 2, RX0, (Option.some (FieldType.object "TileOffice$Floor")), false)
theorem tX0_floor_2 : tv_mt yX0_floor_2 mX0_floor_2 1 := ⟨q943, q79, rfl, (fun h => nomatch h), by decide +kernel, by decide +kernel, by decide⟩
abbrev mX0_stock : tv_M := (cX0_stock, 5, RX0, (Option.some FieldType.boolean), false)
theorem tX0_stock : tv_mt yX0_stock mX0_stock 3 := ⟨q958, q79, rfl, (fun h => nomatch h), by decide +kernel, by decide +kernel, by decide⟩
abbrev mX0_fill : tv_M := (cX0_fill, 3, RX0, (Option.some FieldType.int), false)
theorem tX0_fill : tv_mt yX0_fill mX0_fill 1 := ⟨q962, q79, rfl, (fun h => nomatch h), by decide +kernel, by decide +kernel, by decide⟩
abbrev mX0_fills : tv_M := (cX0_fills, 4, RX0, (Option.some FieldType.int), false)
theorem tX0_fills : tv_mt yX0_fills mX0_fills 2 := ⟨q1020, q79, rfl, (fun h => nomatch h), by decide +kernel, by decide +kernel, by decide⟩
abbrev mX0_cheapest : tv_M := (cX0_cheapest, 3, RX0, (Option.some FieldType.int), false)
theorem tX0_cheapest : tv_mt yX0_cheapest mX0_cheapest 1 := ⟨q1028, q79, rfl, (fun h => nomatch h), by decide +kernel, by decide +kernel, by decide⟩
abbrev mX0_forced : tv_M := (cX0_forced, 3, RX0, (Option.some FieldType.int), false)
theorem tX0_forced : tv_mt yX0_forced mX0_forced 1 := ⟨q1036, q79, rfl, (fun h => nomatch h), by decide +kernel, by decide +kernel, by decide⟩
abbrev mX0_shown : tv_M := (cX0_shown, 5, RX0, (Option.some FieldType.int), false)
theorem tX0_shown : tv_mt yX0_shown mX0_shown 3 := ⟨q1052, q79, rfl, (fun h => nomatch h), by decide +kernel, by decide +kernel, by decide⟩
abbrev mX0_undo : tv_M := (cX0_undo, 1, RX0, (Option.some FieldType.int), false)
theorem tX0_undo : tv_mt yX0_undo mX0_undo 0 := ⟨q1060, q79, rfl, (fun h => nomatch h), by decide +kernel, by decide +kernel, by decide⟩
abbrev mX0_about : tv_M := (cX0_about, 2, RX0, (Option.some FieldType.int), false)
theorem tX0_about : tv_mt yX0_about mX0_about 1 := ⟨q1064, q79, rfl, (fun h => nomatch h), by decide +kernel, by decide +kernel, by decide⟩
abbrev mJ0_init : tv_M := (cJ0_init, 1, RJ0, (Option.none : Option FieldType), true)
theorem tJ0_init : tv_mt yJ0_init mJ0_init 0 := ⟨q122, q80, rfl, (fun _ => rfl), by decide +kernel, by decide +kernel, by decide⟩
theorem fJ1_7_9 : tv_fl RJ1 7 9 0 := ⟨_, _, _, "java/util/AbstractList", rfl, by decide, Or.inl q128, Or.inl rfl⟩
theorem pJ1_7_9 : tv_fp RJ1 7 9 0 .int false := ⟨_, _, _, "java/util/AbstractList", rfl, by decide, Or.inl q128, Or.inl rfl, rfl, (fun h => nomatch h), by decide +kernel⟩
abbrev mJ1_init : tv_M := (cJ1_init, 1, RJ1, (Option.none : Option FieldType), true)
theorem tJ1_init : tv_mt yJ1_init mJ1_init 0 := ⟨q119, q81, rfl, (fun _ => rfl), by decide +kernel, by decide +kernel, by decide⟩
theorem fJ2_9_9 : tv_fl RJ2 9 9 1 := ⟨_, _, _, "java/util/ArrayList", rfl, by decide, Or.inl q126, Or.inl rfl⟩
theorem pJ2_9_9 : tv_fp RJ2 9 9 1 (.array (.object "java/lang/Object")) false := ⟨_, _, _, "java/util/ArrayList", rfl, by decide, Or.inl q126, Or.inl rfl, rfl, (fun h => nomatch h), by decide +kernel⟩
theorem fJ2_48_9 : tv_fl RJ2 48 9 2 := ⟨_, _, _, "java/util/ArrayList", rfl, by decide, Or.inl q127, Or.inl rfl⟩
theorem pJ2_48_9 : tv_fp RJ2 48 9 2 .int false := ⟨_, _, _, "java/util/ArrayList", rfl, by decide, Or.inl q127, Or.inl rfl, rfl, (fun h => nomatch h), by decide +kernel⟩
theorem fJ2_63_9 : tv_fl RJ2 63 9 0 := ⟨_, _, _, "java/util/ArrayList", rfl, by decide, Or.inl q129, Or.inr q130⟩
theorem pJ2_63_9 : tv_fp RJ2 63 9 0 .int false := ⟨_, _, _, "java/util/ArrayList", rfl, by decide, Or.inl q129, Or.inr q130, rfl, (fun h => nomatch h), by decide +kernel⟩
abbrev mJ2_init : tv_M := (cJ2_init, 1, RJ2, (Option.none : Option FieldType), true)
theorem tJ2_init : tv_mt yJ2_init mJ2_init 0 := ⟨q116, q82, rfl, (fun _ => rfl), by decide +kernel, by decide +kernel, by decide⟩
abbrev mJ2_size : tv_M := (cJ2_size, 1, RJ2, (Option.some FieldType.int), false)
theorem tJ2_size : tv_mt yJ2_size mJ2_size 0 := ⟨q209, q82, rfl, (fun h => nomatch h), by decide +kernel, by decide +kernel, by decide⟩
abbrev mJ2_get : tv_M := (cJ2_get, 2, RJ2, (Option.some (FieldType.object "java/lang/Object")), false)
theorem tJ2_get : tv_mt yJ2_get mJ2_get 1 := ⟨q213, q82, rfl, (fun h => nomatch h), by decide +kernel, by decide +kernel, by decide⟩
abbrev mJ2_elementData : tv_M := (cJ2_elementData, 2, RJ2, (Option.some (FieldType.object "java/lang/Object")), false)
theorem tJ2_elementData : tv_mt yJ2_elementData mJ2_elementData 1 := ⟨q223, q82, rfl, (fun h => nomatch h), by decide +kernel, by decide +kernel, by decide⟩
abbrev mJ2_add : tv_M := (cJ2_add, 2, RJ2, (Option.some FieldType.boolean), false)
theorem tJ2_add : tv_mt yJ2_add mJ2_add 1 := ⟨q259, q82, rfl, (fun h => nomatch h), by decide +kernel, by decide +kernel, by decide⟩
abbrev mJ2_add_2 : tv_M := (cJ2_add_2, 4, RJ2, (Option.none : Option FieldType), false)
theorem tJ2_add_2 : tv_mt yJ2_add_2 mJ2_add_2 3 := ⟨q263, q82, rfl, (fun h => nomatch h), by decide +kernel, by decide +kernel, by decide⟩
abbrev mJ2_grow : tv_M := (cJ2_grow, 1, RJ2, (Option.some (FieldType.array (FieldType.object "java/lang/Object"))), false)
theorem tJ2_grow : tv_mt yJ2_grow mJ2_grow 0 := ⟨q267, q82, rfl, (fun h => nomatch h), by decide +kernel, by decide +kernel, by decide⟩
abbrev mJ2_grow_2 : tv_M := (cJ2_grow_2, 4, RJ2, (Option.some (FieldType.array (FieldType.object "java/lang/Object"))), false)
theorem tJ2_grow_2 : tv_mt yJ2_grow_2 mJ2_grow_2 1 := ⟨q271, q82, rfl, (fun h => nomatch h), by decide +kernel, by decide +kernel, by decide⟩
abbrev mJ2_init_2 : tv_M := (cJ2_init_2, 3, RJ2, (Option.none : Option FieldType), true)
theorem tJ2_init_2 : tv_mt yJ2_init_2 mJ2_init_2 1 := ⟨q394, q82, rfl, (fun _ => rfl), by decide +kernel, by decide +kernel, by decide⟩
abbrev mJ2_toArray : tv_M := (cJ2_toArray, 1, RJ2, (Option.some (FieldType.array (FieldType.object "java/lang/Object"))), false)
theorem tJ2_toArray : tv_mt yJ2_toArray mJ2_toArray 0 := ⟨q404, q82, rfl, (fun h => nomatch h), by decide +kernel, by decide +kernel, by decide⟩
abbrev mJ2_add_3 : tv_M := (cJ2_add_3, 5, RJ2, (Option.none : Option FieldType), false)
theorem tJ2_add_3 : tv_mt yJ2_add_3 mJ2_add_3 2 := ⟨q455, q82, rfl, (fun h => nomatch h), by decide +kernel, by decide +kernel, by decide⟩
abbrev mJ2_rangeCheckForAdd : tv_M := (cJ2_rangeCheckForAdd, 2, RJ2, (Option.none : Option FieldType), false)
theorem tJ2_rangeCheckForAdd : tv_mt yJ2_rangeCheckForAdd mJ2_rangeCheckForAdd 1 := ⟨q459, q82, rfl, (fun h => nomatch h), by decide +kernel, by decide +kernel, by decide⟩
abbrev mJ2_remove : tv_M := (cJ2_remove, 4, RJ2, (Option.some (FieldType.object "java/lang/Object")), false)
theorem tJ2_remove : tv_mt yJ2_remove mJ2_remove 1 := ⟨q475, q82, rfl, (fun h => nomatch h), by decide +kernel, by decide +kernel, by decide⟩
abbrev mJ2_fastRemove : tv_M := (cJ2_fastRemove, 4, RJ2, (Option.none : Option FieldType), false)
theorem tJ2_fastRemove : tv_mt yJ2_fastRemove mJ2_fastRemove 2 := ⟨q479, q82, rfl, (fun h => nomatch h), by decide +kernel, by decide +kernel, by decide⟩
abbrev mJ2_set : tv_M := (cJ2_set, 4, RJ2, (Option.some (FieldType.object "java/lang/Object")), false)
theorem tJ2_set : tv_mt yJ2_set mJ2_set 2 := ⟨q519, q82, rfl, (fun h => nomatch h), by decide +kernel, by decide +kernel, by decide⟩
abbrev mJ2_init_3 : tv_M := (cJ2_init_3, 2, RJ2, (Option.none : Option FieldType), true)
theorem tJ2_init_3 : tv_mt yJ2_init_3 mJ2_init_3 1 := ⟨q666, q82, rfl, (fun _ => rfl), by decide +kernel, by decide +kernel, by decide⟩
abbrev mJ2_isEmpty : tv_M := (cJ2_isEmpty, 1, RJ2, (Option.some FieldType.boolean), false)
theorem tJ2_isEmpty : tv_mt yJ2_isEmpty mJ2_isEmpty 0 := ⟨q830, q82, rfl, (fun h => nomatch h), by decide +kernel, by decide +kernel, by decide⟩
theorem fX1_7_1 : tv_fl RX1 7 1 0 := ⟨_, _, _, "TileOfficeModel", rfl, by decide, Or.inl q1072, Or.inl rfl⟩
theorem pX1_7_1 : tv_fp RX1 7 1 0 (.array .int) true := ⟨_, _, _, "TileOfficeModel", rfl, by decide, Or.inl q1072, Or.inl rfl, rfl, (fun _ => rfl), by decide +kernel⟩
theorem fX1_13_1 : tv_fl RX1 13 1 1 := ⟨_, _, _, "TileOfficeModel", rfl, by decide, Or.inl q1073, Or.inl rfl⟩
theorem pX1_13_1 : tv_fp RX1 13 1 1 (.array .int) true := ⟨_, _, _, "TileOfficeModel", rfl, by decide, Or.inl q1073, Or.inl rfl, rfl, (fun _ => rfl), by decide +kernel⟩
theorem fX1_16_1 : tv_fl RX1 16 1 2 := ⟨_, _, _, "TileOfficeModel", rfl, by decide, Or.inl q1074, Or.inl rfl⟩
theorem pX1_16_1 : tv_fp RX1 16 1 2 (.array .int) true := ⟨_, _, _, "TileOfficeModel", rfl, by decide, Or.inl q1074, Or.inl rfl, rfl, (fun _ => rfl), by decide +kernel⟩
theorem fX1_19_1 : tv_fl RX1 19 1 3 := ⟨_, _, _, "TileOfficeModel", rfl, by decide, Or.inl q1075, Or.inl rfl⟩
theorem pX1_19_1 : tv_fp RX1 19 1 3 (.array .boolean) true := ⟨_, _, _, "TileOfficeModel", rfl, by decide, Or.inl q1075, Or.inl rfl, rfl, (fun _ => rfl), by decide +kernel⟩
theorem fX1_23_1 : tv_fl RX1 23 1 4 := ⟨_, _, _, "TileOfficeModel", rfl, by decide, Or.inl q1076, Or.inl rfl⟩
theorem pX1_23_1 : tv_fp RX1 23 1 4 (.array .long) true := ⟨_, _, _, "TileOfficeModel", rfl, by decide, Or.inl q1076, Or.inl rfl, rfl, (fun _ => rfl), by decide +kernel⟩
theorem fX1_128_1 : tv_fl RX1 128 1 5 := ⟨_, _, _, "TileOfficeModel", rfl, by decide, Or.inl q1077, Or.inl rfl⟩
theorem pX1_128_1 : tv_fp RX1 128 1 5 .int false := ⟨_, _, _, "TileOfficeModel", rfl, by decide, Or.inl q1077, Or.inl rfl, rfl, (fun h => nomatch h), by decide +kernel⟩
theorem fX1_27_1 : tv_fl RX1 27 1 6 := ⟨_, _, _, "TileOfficeModel", rfl, by decide, Or.inl q1078, Or.inl rfl⟩
theorem pX1_27_1 : tv_fp RX1 27 1 6 (.array .int) true := ⟨_, _, _, "TileOfficeModel", rfl, by decide, Or.inl q1078, Or.inl rfl, rfl, (fun _ => rfl), by decide +kernel⟩
theorem fX1_30_1 : tv_fl RX1 30 1 7 := ⟨_, _, _, "TileOfficeModel", rfl, by decide, Or.inl q1079, Or.inl rfl⟩
theorem pX1_30_1 : tv_fp RX1 30 1 7 (.array .int) true := ⟨_, _, _, "TileOfficeModel", rfl, by decide, Or.inl q1079, Or.inl rfl, rfl, (fun _ => rfl), by decide +kernel⟩
theorem fX1_34_1 : tv_fl RX1 34 1 8 := ⟨_, _, _, "TileOfficeModel", rfl, by decide, Or.inl q1080, Or.inl rfl⟩
theorem pX1_34_1 : tv_fp RX1 34 1 8 (.array .int) true := ⟨_, _, _, "TileOfficeModel", rfl, by decide, Or.inl q1080, Or.inl rfl, rfl, (fun _ => rfl), by decide +kernel⟩
theorem fX1_172_1 : tv_fl RX1 172 1 9 := ⟨_, _, _, "TileOfficeModel", rfl, by decide, Or.inl q1081, Or.inl rfl⟩
theorem pX1_172_1 : tv_fp RX1 172 1 9 .int false := ⟨_, _, _, "TileOfficeModel", rfl, by decide, Or.inl q1081, Or.inl rfl, rfl, (fun h => nomatch h), by decide +kernel⟩
theorem fX1_37_1 : tv_fl RX1 37 1 10 := ⟨_, _, _, "TileOfficeModel", rfl, by decide, Or.inl q1082, Or.inl rfl⟩
theorem pX1_37_1 : tv_fp RX1 37 1 10 (.array .int) true := ⟨_, _, _, "TileOfficeModel", rfl, by decide, Or.inl q1082, Or.inl rfl, rfl, (fun _ => rfl), by decide +kernel⟩
theorem fX1_40_1 : tv_fl RX1 40 1 11 := ⟨_, _, _, "TileOfficeModel", rfl, by decide, Or.inl q1083, Or.inl rfl⟩
theorem pX1_40_1 : tv_fp RX1 40 1 11 (.array .int) true := ⟨_, _, _, "TileOfficeModel", rfl, by decide, Or.inl q1083, Or.inl rfl, rfl, (fun _ => rfl), by decide +kernel⟩
theorem fX1_169_1 : tv_fl RX1 169 1 12 := ⟨_, _, _, "TileOfficeModel", rfl, by decide, Or.inl q1084, Or.inl rfl⟩
theorem pX1_169_1 : tv_fp RX1 169 1 12 .int false := ⟨_, _, _, "TileOfficeModel", rfl, by decide, Or.inl q1084, Or.inl rfl, rfl, (fun h => nomatch h), by decide +kernel⟩
theorem fX1_43_1 : tv_fl RX1 43 1 13 := ⟨_, _, _, "TileOfficeModel", rfl, by decide, Or.inl q1085, Or.inl rfl⟩
theorem pX1_43_1 : tv_fp RX1 43 1 13 (.array .int) true := ⟨_, _, _, "TileOfficeModel", rfl, by decide, Or.inl q1085, Or.inl rfl, rfl, (fun _ => rfl), by decide +kernel⟩
theorem fX1_46_1 : tv_fl RX1 46 1 14 := ⟨_, _, _, "TileOfficeModel", rfl, by decide, Or.inl q1086, Or.inl rfl⟩
theorem pX1_46_1 : tv_fp RX1 46 1 14 (.array .int) true := ⟨_, _, _, "TileOfficeModel", rfl, by decide, Or.inl q1086, Or.inl rfl, rfl, (fun _ => rfl), by decide +kernel⟩
theorem fX1_49_1 : tv_fl RX1 49 1 15 := ⟨_, _, _, "TileOfficeModel", rfl, by decide, Or.inl q1087, Or.inl rfl⟩
theorem pX1_49_1 : tv_fp RX1 49 1 15 (.array .int) true := ⟨_, _, _, "TileOfficeModel", rfl, by decide, Or.inl q1087, Or.inl rfl, rfl, (fun _ => rfl), by decide +kernel⟩
theorem fX1_184_1 : tv_fl RX1 184 1 16 := ⟨_, _, _, "TileOfficeModel", rfl, by decide, Or.inl q1088, Or.inl rfl⟩
theorem pX1_184_1 : tv_fp RX1 184 1 16 .int false := ⟨_, _, _, "TileOfficeModel", rfl, by decide, Or.inl q1088, Or.inl rfl, rfl, (fun h => nomatch h), by decide +kernel⟩
theorem fX1_181_1 : tv_fl RX1 181 1 17 := ⟨_, _, _, "TileOfficeModel", rfl, by decide, Or.inl q1089, Or.inl rfl⟩
theorem pX1_181_1 : tv_fp RX1 181 1 17 .int false := ⟨_, _, _, "TileOfficeModel", rfl, by decide, Or.inl q1089, Or.inl rfl, rfl, (fun h => nomatch h), by decide +kernel⟩
theorem fX1_215_1 : tv_fl RX1 215 1 18 := ⟨_, _, _, "TileOfficeModel", rfl, by decide, Or.inl q1090, Or.inl rfl⟩
theorem pX1_215_1 : tv_fp RX1 215 1 18 .int false := ⟨_, _, _, "TileOfficeModel", rfl, by decide, Or.inl q1090, Or.inl rfl, rfl, (fun h => nomatch h), by decide +kernel⟩
theorem fX1_218_1 : tv_fl RX1 218 1 19 := ⟨_, _, _, "TileOfficeModel", rfl, by decide, Or.inl q1091, Or.inl rfl⟩
theorem pX1_218_1 : tv_fp RX1 218 1 19 .int false := ⟨_, _, _, "TileOfficeModel", rfl, by decide, Or.inl q1091, Or.inl rfl, rfl, (fun h => nomatch h), by decide +kernel⟩
theorem fX1_52_1 : tv_fl RX1 52 1 20 := ⟨_, _, _, "TileOfficeModel", rfl, by decide, Or.inl q1092, Or.inl rfl⟩
theorem pX1_52_1 : tv_fp RX1 52 1 20 (.array .int) true := ⟨_, _, _, "TileOfficeModel", rfl, by decide, Or.inl q1092, Or.inl rfl, rfl, (fun _ => rfl), by decide +kernel⟩
theorem fX1_55_1 : tv_fl RX1 55 1 21 := ⟨_, _, _, "TileOfficeModel", rfl, by decide, Or.inl q1093, Or.inl rfl⟩
theorem pX1_55_1 : tv_fp RX1 55 1 21 (.array .int) true := ⟨_, _, _, "TileOfficeModel", rfl, by decide, Or.inl q1093, Or.inl rfl, rfl, (fun _ => rfl), by decide +kernel⟩
theorem fX1_58_1 : tv_fl RX1 58 1 22 := ⟨_, _, _, "TileOfficeModel", rfl, by decide, Or.inl q1094, Or.inl rfl⟩
theorem pX1_58_1 : tv_fp RX1 58 1 22 (.array .boolean) true := ⟨_, _, _, "TileOfficeModel", rfl, by decide, Or.inl q1094, Or.inl rfl, rfl, (fun _ => rfl), by decide +kernel⟩
theorem fX1_61_1 : tv_fl RX1 61 1 23 := ⟨_, _, _, "TileOfficeModel", rfl, by decide, Or.inl q1095, Or.inl rfl⟩
theorem pX1_61_1 : tv_fp RX1 61 1 23 (.array .boolean) true := ⟨_, _, _, "TileOfficeModel", rfl, by decide, Or.inl q1095, Or.inl rfl, rfl, (fun _ => rfl), by decide +kernel⟩
theorem fX1_221_1 : tv_fl RX1 221 1 24 := ⟨_, _, _, "TileOfficeModel", rfl, by decide, Or.inl q1096, Or.inl rfl⟩
theorem pX1_221_1 : tv_fp RX1 221 1 24 .int false := ⟨_, _, _, "TileOfficeModel", rfl, by decide, Or.inl q1096, Or.inl rfl, rfl, (fun h => nomatch h), by decide +kernel⟩
theorem fX1_224_1 : tv_fl RX1 224 1 25 := ⟨_, _, _, "TileOfficeModel", rfl, by decide, Or.inl q1097, Or.inl rfl⟩
theorem pX1_224_1 : tv_fp RX1 224 1 25 .int false := ⟨_, _, _, "TileOfficeModel", rfl, by decide, Or.inl q1097, Or.inl rfl, rfl, (fun h => nomatch h), by decide +kernel⟩
theorem fX1_64_1 : tv_fl RX1 64 1 26 := ⟨_, _, _, "TileOfficeModel", rfl, by decide, Or.inl q1098, Or.inl rfl⟩
theorem pX1_64_1 : tv_fp RX1 64 1 26 (.array .int) true := ⟨_, _, _, "TileOfficeModel", rfl, by decide, Or.inl q1098, Or.inl rfl, rfl, (fun _ => rfl), by decide +kernel⟩
theorem fX1_67_1 : tv_fl RX1 67 1 27 := ⟨_, _, _, "TileOfficeModel", rfl, by decide, Or.inl q1099, Or.inl rfl⟩
theorem pX1_67_1 : tv_fp RX1 67 1 27 (.array .int) true := ⟨_, _, _, "TileOfficeModel", rfl, by decide, Or.inl q1099, Or.inl rfl, rfl, (fun _ => rfl), by decide +kernel⟩
theorem fX1_70_1 : tv_fl RX1 70 1 28 := ⟨_, _, _, "TileOfficeModel", rfl, by decide, Or.inl q1100, Or.inl rfl⟩
theorem pX1_70_1 : tv_fp RX1 70 1 28 (.array .int) true := ⟨_, _, _, "TileOfficeModel", rfl, by decide, Or.inl q1100, Or.inl rfl, rfl, (fun _ => rfl), by decide +kernel⟩
theorem fX1_238_1 : tv_fl RX1 238 1 29 := ⟨_, _, _, "TileOfficeModel", rfl, by decide, Or.inl q1101, Or.inl rfl⟩
theorem pX1_238_1 : tv_fp RX1 238 1 29 .int false := ⟨_, _, _, "TileOfficeModel", rfl, by decide, Or.inl q1101, Or.inl rfl, rfl, (fun h => nomatch h), by decide +kernel⟩
theorem fX1_73_1 : tv_fl RX1 73 1 30 := ⟨_, _, _, "TileOfficeModel", rfl, by decide, Or.inl q1102, Or.inl rfl⟩
theorem pX1_73_1 : tv_fp RX1 73 1 30 (.array .int) true := ⟨_, _, _, "TileOfficeModel", rfl, by decide, Or.inl q1102, Or.inl rfl, rfl, (fun _ => rfl), by decide +kernel⟩
theorem fX1_76_1 : tv_fl RX1 76 1 31 := ⟨_, _, _, "TileOfficeModel", rfl, by decide, Or.inl q1103, Or.inl rfl⟩
theorem pX1_76_1 : tv_fp RX1 76 1 31 (.array .int) true := ⟨_, _, _, "TileOfficeModel", rfl, by decide, Or.inl q1103, Or.inl rfl, rfl, (fun _ => rfl), by decide +kernel⟩
theorem fX1_79_1 : tv_fl RX1 79 1 32 := ⟨_, _, _, "TileOfficeModel", rfl, by decide, Or.inl q1104, Or.inl rfl⟩
theorem pX1_79_1 : tv_fp RX1 79 1 32 (.array .int) true := ⟨_, _, _, "TileOfficeModel", rfl, by decide, Or.inl q1104, Or.inl rfl, rfl, (fun _ => rfl), by decide +kernel⟩
theorem fX1_82_1 : tv_fl RX1 82 1 33 := ⟨_, _, _, "TileOfficeModel", rfl, by decide, Or.inl q1105, Or.inl rfl⟩
theorem pX1_82_1 : tv_fp RX1 82 1 33 (.array .long) true := ⟨_, _, _, "TileOfficeModel", rfl, by decide, Or.inl q1105, Or.inl rfl, rfl, (fun _ => rfl), by decide +kernel⟩
theorem fX1_85_1 : tv_fl RX1 85 1 34 := ⟨_, _, _, "TileOfficeModel", rfl, by decide, Or.inl q1106, Or.inl rfl⟩
theorem pX1_85_1 : tv_fp RX1 85 1 34 (.array .long) true := ⟨_, _, _, "TileOfficeModel", rfl, by decide, Or.inl q1106, Or.inl rfl, rfl, (fun _ => rfl), by decide +kernel⟩
theorem fX1_88_1 : tv_fl RX1 88 1 35 := ⟨_, _, _, "TileOfficeModel", rfl, by decide, Or.inl q1107, Or.inl rfl⟩
theorem pX1_88_1 : tv_fp RX1 88 1 35 (.array .int) true := ⟨_, _, _, "TileOfficeModel", rfl, by decide, Or.inl q1107, Or.inl rfl, rfl, (fun _ => rfl), by decide +kernel⟩
theorem fX1_91_1 : tv_fl RX1 91 1 36 := ⟨_, _, _, "TileOfficeModel", rfl, by decide, Or.inl q1108, Or.inl rfl⟩
theorem pX1_91_1 : tv_fp RX1 91 1 36 (.array .int) true := ⟨_, _, _, "TileOfficeModel", rfl, by decide, Or.inl q1108, Or.inl rfl, rfl, (fun _ => rfl), by decide +kernel⟩
theorem fX1_94_1 : tv_fl RX1 94 1 37 := ⟨_, _, _, "TileOfficeModel", rfl, by decide, Or.inl q1109, Or.inl rfl⟩
theorem pX1_94_1 : tv_fp RX1 94 1 37 (.array .int) true := ⟨_, _, _, "TileOfficeModel", rfl, by decide, Or.inl q1109, Or.inl rfl, rfl, (fun _ => rfl), by decide +kernel⟩
theorem fX1_97_1 : tv_fl RX1 97 1 38 := ⟨_, _, _, "TileOfficeModel", rfl, by decide, Or.inl q1110, Or.inl rfl⟩
theorem pX1_97_1 : tv_fp RX1 97 1 38 (.array .int) true := ⟨_, _, _, "TileOfficeModel", rfl, by decide, Or.inl q1110, Or.inl rfl, rfl, (fun _ => rfl), by decide +kernel⟩
theorem fX1_100_1 : tv_fl RX1 100 1 39 := ⟨_, _, _, "TileOfficeModel", rfl, by decide, Or.inl q1111, Or.inl rfl⟩
theorem pX1_100_1 : tv_fp RX1 100 1 39 (.array .int) true := ⟨_, _, _, "TileOfficeModel", rfl, by decide, Or.inl q1111, Or.inl rfl, rfl, (fun _ => rfl), by decide +kernel⟩
theorem fX1_285_1 : tv_fl RX1 285 1 40 := ⟨_, _, _, "TileOfficeModel", rfl, by decide, Or.inl q1112, Or.inl rfl⟩
theorem pX1_285_1 : tv_fp RX1 285 1 40 .int false := ⟨_, _, _, "TileOfficeModel", rfl, by decide, Or.inl q1112, Or.inl rfl, rfl, (fun h => nomatch h), by decide +kernel⟩
theorem fX1_344_1 : tv_fl RX1 344 1 41 := ⟨_, _, _, "TileOfficeModel", rfl, by decide, Or.inl q1113, Or.inl rfl⟩
theorem pX1_344_1 : tv_fp RX1 344 1 41 .int false := ⟨_, _, _, "TileOfficeModel", rfl, by decide, Or.inl q1113, Or.inl rfl, rfl, (fun h => nomatch h), by decide +kernel⟩
theorem fX1_294_1 : tv_fl RX1 294 1 42 := ⟨_, _, _, "TileOfficeModel", rfl, by decide, Or.inl q1114, Or.inl rfl⟩
theorem pX1_294_1 : tv_fp RX1 294 1 42 .int false := ⟨_, _, _, "TileOfficeModel", rfl, by decide, Or.inl q1114, Or.inl rfl, rfl, (fun h => nomatch h), by decide +kernel⟩
theorem fX1_307_1 : tv_fl RX1 307 1 43 := ⟨_, _, _, "TileOfficeModel", rfl, by decide, Or.inl q1115, Or.inl rfl⟩
theorem pX1_307_1 : tv_fp RX1 307 1 43 .int false := ⟨_, _, _, "TileOfficeModel", rfl, by decide, Or.inl q1115, Or.inl rfl, rfl, (fun h => nomatch h), by decide +kernel⟩
theorem fX1_103_1 : tv_fl RX1 103 1 44 := ⟨_, _, _, "TileOfficeModel", rfl, by decide, Or.inl q1116, Or.inl rfl⟩
theorem pX1_103_1 : tv_fp RX1 103 1 44 (.array .int) true := ⟨_, _, _, "TileOfficeModel", rfl, by decide, Or.inl q1116, Or.inl rfl, rfl, (fun _ => rfl), by decide +kernel⟩
theorem fX1_106_1 : tv_fl RX1 106 1 45 := ⟨_, _, _, "TileOfficeModel", rfl, by decide, Or.inl q1117, Or.inl rfl⟩
theorem pX1_106_1 : tv_fp RX1 106 1 45 (.array .int) true := ⟨_, _, _, "TileOfficeModel", rfl, by decide, Or.inl q1117, Or.inl rfl, rfl, (fun _ => rfl), by decide +kernel⟩
theorem fX1_109_1 : tv_fl RX1 109 1 46 := ⟨_, _, _, "TileOfficeModel", rfl, by decide, Or.inl q1118, Or.inl rfl⟩
theorem pX1_109_1 : tv_fp RX1 109 1 46 (.array .int) true := ⟨_, _, _, "TileOfficeModel", rfl, by decide, Or.inl q1118, Or.inl rfl, rfl, (fun _ => rfl), by decide +kernel⟩
theorem fX1_112_1 : tv_fl RX1 112 1 47 := ⟨_, _, _, "TileOfficeModel", rfl, by decide, Or.inl q1119, Or.inl rfl⟩
theorem pX1_112_1 : tv_fp RX1 112 1 47 (.array .int) true := ⟨_, _, _, "TileOfficeModel", rfl, by decide, Or.inl q1119, Or.inl rfl, rfl, (fun _ => rfl), by decide +kernel⟩
theorem fX1_115_1 : tv_fl RX1 115 1 48 := ⟨_, _, _, "TileOfficeModel", rfl, by decide, Or.inl q1120, Or.inl rfl⟩
theorem pX1_115_1 : tv_fp RX1 115 1 48 (.array .int) true := ⟨_, _, _, "TileOfficeModel", rfl, by decide, Or.inl q1120, Or.inl rfl, rfl, (fun _ => rfl), by decide +kernel⟩
theorem fX1_329_1 : tv_fl RX1 329 1 49 := ⟨_, _, _, "TileOfficeModel", rfl, by decide, Or.inl q1121, Or.inl rfl⟩
theorem pX1_329_1 : tv_fp RX1 329 1 49 .int false := ⟨_, _, _, "TileOfficeModel", rfl, by decide, Or.inl q1121, Or.inl rfl, rfl, (fun h => nomatch h), by decide +kernel⟩
theorem fX1_316_1 : tv_fl RX1 316 1 50 := ⟨_, _, _, "TileOfficeModel", rfl, by decide, Or.inl q1122, Or.inl rfl⟩
theorem pX1_316_1 : tv_fp RX1 316 1 50 .int false := ⟨_, _, _, "TileOfficeModel", rfl, by decide, Or.inl q1122, Or.inl rfl, rfl, (fun h => nomatch h), by decide +kernel⟩
theorem fX1_319_1 : tv_fl RX1 319 1 51 := ⟨_, _, _, "TileOfficeModel", rfl, by decide, Or.inl q1123, Or.inl rfl⟩
theorem pX1_319_1 : tv_fp RX1 319 1 51 .int false := ⟨_, _, _, "TileOfficeModel", rfl, by decide, Or.inl q1123, Or.inl rfl, rfl, (fun h => nomatch h), by decide +kernel⟩
theorem fX1_313_1 : tv_fl RX1 313 1 52 := ⟨_, _, _, "TileOfficeModel", rfl, by decide, Or.inl q1124, Or.inl rfl⟩
theorem pX1_313_1 : tv_fp RX1 313 1 52 .int false := ⟨_, _, _, "TileOfficeModel", rfl, by decide, Or.inl q1124, Or.inl rfl, rfl, (fun h => nomatch h), by decide +kernel⟩
theorem fX1_322_1 : tv_fl RX1 322 1 53 := ⟨_, _, _, "TileOfficeModel", rfl, by decide, Or.inl q1125, Or.inl rfl⟩
theorem pX1_322_1 : tv_fp RX1 322 1 53 .int false := ⟨_, _, _, "TileOfficeModel", rfl, by decide, Or.inl q1125, Or.inl rfl, rfl, (fun h => nomatch h), by decide +kernel⟩
theorem fX1_325_1 : tv_fl RX1 325 1 54 := ⟨_, _, _, "TileOfficeModel", rfl, by decide, Or.inl q1126, Or.inl rfl⟩
theorem pX1_325_1 : tv_fp RX1 325 1 54 .boolean false := ⟨_, _, _, "TileOfficeModel", rfl, by decide, Or.inl q1126, Or.inl rfl, rfl, (fun h => nomatch h), by decide +kernel⟩
abbrev mX1_init : tv_M := (cX1_init, 1, RX1, (Option.none : Option FieldType), true)
theorem tX1_init : tv_mt yX1_init mX1_init 0 := ⟨q1069, q83, rfl, (fun _ => rfl), by decide +kernel, by decide +kernel, by decide⟩
abbrev mX1_kind : tv_M := (cX1_kind, 11, RX1, (Option.some FieldType.int), false)
theorem tX1_kind : tv_mt yX1_kind mX1_kind 5 := ⟨q1241, q83, rfl, (fun h => nomatch h), by decide +kernel, by decide +kernel, by decide⟩
abbrev mX1_plain : tv_M := (cX1_plain, 7, RX1, (Option.some FieldType.long), false)
theorem tX1_plain : tv_mt yX1_plain mX1_plain 1 := ⟨q1244, q83, rfl, (fun h => nomatch h), by decide +kernel, by decide +kernel, by decide⟩
abbrev mX1_named : tv_M := (cX1_named, 6, RX1, (Option.some FieldType.int), false)
theorem tX1_named : tv_mt yX1_named mX1_named 1 := ⟨q1252, q83, rfl, (fun h => nomatch h), by decide +kernel, by decide +kernel, by decide⟩
abbrev mX1_then : tv_M := (cX1_then, 3, RX1, (Option.some FieldType.int), false)
theorem tX1_then : tv_mt yX1_then mX1_then 2 := ⟨q1257, q83, rfl, (fun h => nomatch h), by decide +kernel, by decide +kernel, by decide⟩
abbrev mX1_isMove : tv_M := (cX1_isMove, 1, RX1, (Option.some FieldType.boolean), false)
theorem tX1_isMove : tv_mt yX1_isMove mX1_isMove 1 := ⟨q1260, q83, rfl, (fun h => nomatch h), by decide +kernel, by decide +kernel, by decide⟩
abbrev mX1_thenMove : tv_M := (cX1_thenMove, 2, RX1, (Option.some FieldType.int), false)
theorem tX1_thenMove : tv_mt yX1_thenMove mX1_thenMove 2 := ⟨q1263, q83, rfl, (fun h => nomatch h), by decide +kernel, by decide +kernel, by decide⟩
abbrev mX1_edge : tv_M := (cX1_edge, 5, RX1, (Option.some FieldType.int), false)
theorem tX1_edge : tv_mt yX1_edge mX1_edge 3 := ⟨q1267, q83, rfl, (fun h => nomatch h), by decide +kernel, by decide +kernel, by decide⟩
abbrev mX1_isKind : tv_M := (cX1_isKind, 2, RX1, (Option.some FieldType.boolean), false)
theorem tX1_isKind : tv_mt yX1_isKind mX1_isKind 1 := ⟨q1271, q83, rfl, (fun h => nomatch h), by decide +kernel, by decide +kernel, by decide⟩
abbrev mX1_lies : tv_M := (cX1_lies, 3, RX1, (Option.some FieldType.int), false)
theorem tX1_lies : tv_mt yX1_lies mX1_lies 2 := ⟨q1275, q83, rfl, (fun h => nomatch h), by decide +kernel, by decide +kernel, by decide⟩
abbrev mX1_colour : tv_M := (cX1_colour, 5, RX1, (Option.some FieldType.int), false)
theorem tX1_colour : tv_mt yX1_colour mX1_colour 3 := ⟨q1279, q83, rfl, (fun h => nomatch h), by decide +kernel, by decide +kernel, by decide⟩
abbrev mX1_undo : tv_M := (cX1_undo, 3, RX1, (Option.some FieldType.int), false)
theorem tX1_undo : tv_mt yX1_undo mX1_undo 0 := ⟨q1283, q83, rfl, (fun h => nomatch h), by decide +kernel, by decide +kernel, by decide⟩
abbrev mX1_pattern : tv_M := (cX1_pattern, 1, RX1, (Option.some FieldType.int), false)
theorem tX1_pattern : tv_mt yX1_pattern mX1_pattern 0 := ⟨q1287, q83, rfl, (fun h => nomatch h), by decide +kernel, by decide +kernel, by decide⟩
abbrev mX1_insert : tv_M := (cX1_insert, 6, RX1, (Option.some FieldType.boolean), false)
theorem tX1_insert : tv_mt yX1_insert mX1_insert 4 := ⟨q1291, q83, rfl, (fun h => nomatch h), by decide +kernel, by decide +kernel, by decide⟩
abbrev mX1_isPattern : tv_M := (cX1_isPattern, 2, RX1, (Option.some FieldType.boolean), false)
theorem tX1_isPattern : tv_mt yX1_isPattern mX1_isPattern 1 := ⟨q1295, q83, rfl, (fun h => nomatch h), by decide +kernel, by decide +kernel, by decide⟩
abbrev mX1_keep : tv_M := (cX1_keep, 3, RX1, (Option.none : Option FieldType), false)
theorem tX1_keep : tv_mt yX1_keep mX1_keep 1 := ⟨q1299, q83, rfl, (fun h => nomatch h), by decide +kernel, by decide +kernel, by decide⟩
abbrev mX1_rowOf : tv_M := (cX1_rowOf, 3, RX1, (Option.some FieldType.int), false)
theorem tX1_rowOf : tv_mt yX1_rowOf mX1_rowOf 2 := ⟨q1303, q83, rfl, (fun h => nomatch h), by decide +kernel, by decide +kernel, by decide⟩
abbrev mX1_newRow : tv_M := (cX1_newRow, 4, RX1, (Option.some FieldType.int), false)
theorem tX1_newRow : tv_mt yX1_newRow mX1_newRow 2 := ⟨q1307, q83, rfl, (fun h => nomatch h), by decide +kernel, by decide +kernel, by decide⟩
abbrev mX1_remove : tv_M := (cX1_remove, 3, RX1, (Option.some FieldType.boolean), false)
theorem tX1_remove : tv_mt yX1_remove mX1_remove 2 := ⟨q1311, q83, rfl, (fun h => nomatch h), by decide +kernel, by decide +kernel, by decide⟩
abbrev mX1_takeRow : tv_M := (cX1_takeRow, 4, RX1, (Option.none : Option FieldType), false)
theorem tX1_takeRow : tv_mt yX1_takeRow mX1_takeRow 2 := ⟨q1315, q83, rfl, (fun h => nomatch h), by decide +kernel, by decide +kernel, by decide⟩
abbrev mX1_move : tv_M := (cX1_move, 6, RX1, (Option.some FieldType.boolean), false)
theorem tX1_move : tv_mt yX1_move mX1_move 3 := ⟨q1319, q83, rfl, (fun h => nomatch h), by decide +kernel, by decide +kernel, by decide⟩
abbrev mX1_put : tv_M := (cX1_put, 6, RX1, (Option.some FieldType.boolean), false)
theorem tX1_put : tv_mt yX1_put mX1_put 5 := ⟨q1323, q83, rfl, (fun h => nomatch h), by decide +kernel, by decide +kernel, by decide⟩
abbrev mX1_has : tv_M := (cX1_has, 7, RX1, (Option.some FieldType.boolean), false)
theorem tX1_has : tv_mt yX1_has mX1_has 3 := ⟨q1327, q83, rfl, (fun h => nomatch h), by decide +kernel, by decide +kernel, by decide⟩
abbrev mX1_cell : tv_M := (cX1_cell, 3, RX1, (Option.some FieldType.int), false)
theorem tX1_cell : tv_mt yX1_cell mX1_cell 3 := ⟨q1330, q83, rfl, (fun h => nomatch h), by decide +kernel, by decide +kernel, by decide⟩
abbrev mX1_sets : tv_M := (cX1_sets, 5, RX1, (Option.some FieldType.boolean), false)
theorem tX1_sets : tv_mt yX1_sets mX1_sets 4 := ⟨q1334, q83, rfl, (fun h => nomatch h), by decide +kernel, by decide +kernel, by decide⟩
abbrev mX1_own : tv_M := (cX1_own, 6, RX1, (Option.none : Option FieldType), false)
theorem tX1_own : tv_mt yX1_own mX1_own 2 := ⟨q1338, q83, rfl, (fun h => nomatch h), by decide +kernel, by decide +kernel, by decide⟩
abbrev mX1_placeOf : tv_M := (cX1_placeOf, 4, RX1, (Option.some FieldType.int), false)
theorem tX1_placeOf : tv_mt yX1_placeOf mX1_placeOf 3 := ⟨q1342, q83, rfl, (fun h => nomatch h), by decide +kernel, by decide +kernel, by decide⟩
abbrev mX1_shade : tv_M := (cX1_shade, 6, RX1, (Option.some FieldType.boolean), false)
theorem tX1_shade : tv_mt yX1_shade mX1_shade 4 := ⟨q1346, q83, rfl, (fun h => nomatch h), by decide +kernel, by decide +kernel, by decide⟩
abbrev mX1_cellAt : tv_M := (cX1_cellAt, 4, RX1, (Option.some FieldType.int), false)
theorem tX1_cellAt : tv_mt yX1_cellAt mX1_cellAt 3 := ⟨q1350, q83, rfl, (fun h => nomatch h), by decide +kernel, by decide +kernel, by decide⟩
abbrev mX1_kindOf : tv_M := (cX1_kindOf, 1, RX1, (Option.some FieldType.int), false)
theorem tX1_kindOf : tv_mt yX1_kindOf mX1_kindOf 1 := ⟨q1353, q83, rfl, (fun h => nomatch h), by decide +kernel, by decide +kernel, by decide⟩
abbrev mX1_moveOf : tv_M := (cX1_moveOf, 1, RX1, (Option.some FieldType.int), false)
theorem tX1_moveOf : tv_mt yX1_moveOf mX1_moveOf 1 := ⟨q1357, q83, rfl, (fun h => nomatch h), by decide +kernel, by decide +kernel, by decide⟩
abbrev mX1_at : tv_M := (cX1_at, 7, RX1, (Option.some FieldType.int), false)
theorem tX1_at : tv_mt yX1_at mX1_at 4 := ⟨q1361, q83, rfl, (fun h => nomatch h), by decide +kernel, by decide +kernel, by decide⟩
abbrev mX1_shadeOf : tv_M := (cX1_shadeOf, 1, RX1, (Option.some FieldType.int), false)
theorem tX1_shadeOf : tv_mt yX1_shadeOf mX1_shadeOf 1 := ⟨q1364, q83, rfl, (fun h => nomatch h), by decide +kernel, by decide +kernel, by decide⟩
abbrev mX1_row : tv_M := (cX1_row, 8, RX1, (Option.some FieldType.int), false)
theorem tX1_row : tv_mt yX1_row mX1_row 3 := ⟨q1368, q83, rfl, (fun h => nomatch h), by decide +kernel, by decide +kernel, by decide⟩
abbrev mX1_shares : tv_M := (cX1_shares, 5, RX1, (Option.some FieldType.boolean), false)
theorem tX1_shares : tv_mt yX1_shares mX1_shares 4 := ⟨q1372, q83, rfl, (fun h => nomatch h), by decide +kernel, by decide +kernel, by decide⟩
abbrev mX1_copy : tv_M := (cX1_copy, 3, RX1, (Option.some FieldType.int), false)
theorem tX1_copy : tv_mt yX1_copy mX1_copy 1 := ⟨q1376, q83, rfl, (fun h => nomatch h), by decide +kernel, by decide +kernel, by decide⟩
abbrev mX1_region : tv_M := (cX1_region, 12, RX1, (Option.some FieldType.int), false)
theorem tX1_region : tv_mt yX1_region mX1_region 5 := ⟨q1380, q83, rfl, (fun h => nomatch h), by decide +kernel, by decide +kernel, by decide⟩
abbrev mX1_turn : tv_M := (cX1_turn, 6, RX1, (Option.some FieldType.boolean), false)
theorem tX1_turn : tv_mt yX1_turn mX1_turn 1 := ⟨q1384, q83, rfl, (fun h => nomatch h), by decide +kernel, by decide +kernel, by decide⟩
abbrev mX1_comesFrom : tv_M := (cX1_comesFrom, 7, RX1, (Option.none : Option FieldType), false)
theorem tX1_comesFrom : tv_mt yX1_comesFrom mX1_comesFrom 5 := ⟨q1388, q83, rfl, (fun h => nomatch h), by decide +kernel, by decide +kernel, by decide⟩
abbrev mX1_moved : tv_M := (cX1_moved, 3, RX1, (Option.some FieldType.int), false)
theorem tX1_moved : tv_mt yX1_moved mX1_moved 2 := ⟨q1392, q83, rfl, (fun h => nomatch h), by decide +kernel, by decide +kernel, by decide⟩
abbrev mX1_paste : tv_M := (cX1_paste, 9, RX1, (Option.some FieldType.int), false)
theorem tX1_paste : tv_mt yX1_paste mX1_paste 3 := ⟨q1396, q83, rfl, (fun h => nomatch h), by decide +kernel, by decide +kernel, by decide⟩
abbrev mX1_comes : tv_M := (cX1_comes, 7, RX1, (Option.some FieldType.int), false)
theorem tX1_comes : tv_mt yX1_comes mX1_comes 4 := ⟨q1400, q83, rfl, (fun h => nomatch h), by decide +kernel, by decide +kernel, by decide⟩
abbrev mX1_rule : tv_M := (cX1_rule, 4, RX1, (Option.some FieldType.int), false)
theorem tX1_rule : tv_mt yX1_rule mX1_rule 2 := ⟨q1404, q83, rfl, (fun h => nomatch h), by decide +kernel, by decide +kernel, by decide⟩
abbrev mX1_becomes : tv_M := (cX1_becomes, 7, RX1, (Option.some FieldType.boolean), false)
theorem tX1_becomes : tv_mt yX1_becomes mX1_becomes 6 := ⟨q1408, q83, rfl, (fun h => nomatch h), by decide +kernel, by decide +kernel, by decide⟩
abbrev mX1_isRule : tv_M := (cX1_isRule, 2, RX1, (Option.some FieldType.boolean), false)
theorem tX1_isRule : tv_mt yX1_isRule mX1_isRule 1 := ⟨q1412, q83, rfl, (fun h => nomatch h), by decide +kernel, by decide +kernel, by decide⟩
abbrev mX1_grow : tv_M := (cX1_grow, 11, RX1, (Option.some FieldType.int), false)
theorem tX1_grow : tv_mt yX1_grow mX1_grow 3 := ⟨q1416, q83, rfl, (fun h => nomatch h), by decide +kernel, by decide +kernel, by decide⟩
abbrev mX1_grown : tv_M := (cX1_grown, 13, RX1, (Option.some FieldType.boolean), false)
theorem tX1_grown : tv_mt yX1_grown mX1_grown 3 := ⟨q1420, q83, rfl, (fun h => nomatch h), by decide +kernel, by decide +kernel, by decide⟩
abbrev mX1_block : tv_M := (cX1_block, 6, RX1, (Option.some FieldType.int), false)
theorem tX1_block : tv_mt yX1_block mX1_block 4 := ⟨q1424, q83, rfl, (fun h => nomatch h), by decide +kernel, by decide +kernel, by decide⟩
abbrev mX1_foretold : tv_M := (cX1_foretold, 9, RX1, (Option.some FieldType.long), false)
theorem tX1_foretold : tv_mt yX1_foretold mX1_foretold 4 := ⟨q1429, q83, rfl, (fun h => nomatch h), by decide +kernel, by decide +kernel, by decide⟩
abbrev mX1_sum : tv_M := (cX1_sum, 4, RX1, (Option.some FieldType.long), false)
theorem tX1_sum : tv_mt yX1_sum mX1_sum 2 := ⟨q1433, q83, rfl, (fun h => nomatch h), by decide +kernel, by decide +kernel, by decide⟩
abbrev mX1_count : tv_M := (cX1_count, 8, RX1, (Option.some FieldType.int), false)
theorem tX1_count : tv_mt yX1_count mX1_count 2 := ⟨q1438, q83, rfl, (fun h => nomatch h), by decide +kernel, by decide +kernel, by decide⟩
abbrev mX1_fits : tv_M := (cX1_fits, 10, RX1, (Option.some FieldType.int), false)
theorem tX1_fits : tv_mt yX1_fits mX1_fits 1 := ⟨q1442, q83, rfl, (fun h => nomatch h), by decide +kernel, by decide +kernel, by decide⟩
abbrev mX1_fit : tv_M := (cX1_fit, 4, RX1, (Option.some FieldType.boolean), false)
theorem tX1_fit : tv_mt yX1_fit mX1_fit 3 := ⟨q1446, q83, rfl, (fun h => nomatch h), by decide +kernel, by decide +kernel, by decide⟩
abbrev mX1_period : tv_M := (cX1_period, 4, RX1, (Option.some FieldType.int), false)
theorem tX1_period : tv_mt yX1_period mX1_period 2 := ⟨q1450, q83, rfl, (fun h => nomatch h), by decide +kernel, by decide +kernel, by decide⟩
abbrev mX1_comesAgain : tv_M := (cX1_comesAgain, 8, RX1, (Option.some FieldType.boolean), false)
theorem tX1_comesAgain : tv_mt yX1_comesAgain mX1_comesAgain 3 := ⟨q1454, q83, rfl, (fun h => nomatch h), by decide +kernel, by decide +kernel, by decide⟩
abbrev mX1_kept : tv_M := (cX1_kept, 4, RX1, (Option.some FieldType.int), false)
theorem tX1_kept : tv_mt yX1_kept mX1_kept 1 := ⟨q1458, q83, rfl, (fun h => nomatch h), by decide +kernel, by decide +kernel, by decide⟩
abbrev mX1_isFull : tv_M := (cX1_isFull, 4, RX1, (Option.some FieldType.boolean), false)
theorem tX1_isFull : tv_mt yX1_isFull mX1_isFull 1 := ⟨q1462, q83, rfl, (fun h => nomatch h), by decide +kernel, by decide +kernel, by decide⟩
abbrev mX1_isMoved : tv_M := (cX1_isMoved, 8, RX1, (Option.some FieldType.boolean), false)
theorem tX1_isMoved : tv_mt yX1_isMoved mX1_isMoved 3 := ⟨q1466, q83, rfl, (fun h => nomatch h), by decide +kernel, by decide +kernel, by decide⟩
abbrev mX1_wide : tv_M := (cX1_wide, 2, RX1, (Option.some FieldType.int), false)
theorem tX1_wide : tv_mt yX1_wide mX1_wide 1 := ⟨q1470, q83, rfl, (fun h => nomatch h), by decide +kernel, by decide +kernel, by decide⟩
abbrev mX1_movedCell : tv_M := (cX1_movedCell, 5, RX1, (Option.some FieldType.int), false)
theorem tX1_movedCell : tv_mt yX1_movedCell mX1_movedCell 4 := ⟨q1474, q83, rfl, (fun h => nomatch h), by decide +kernel, by decide +kernel, by decide⟩
abbrev mX1_congruent : tv_M := (cX1_congruent, 4, RX1, (Option.some FieldType.int), false)
theorem tX1_congruent : tv_mt yX1_congruent mX1_congruent 2 := ⟨q1478, q83, rfl, (fun h => nomatch h), by decide +kernel, by decide +kernel, by decide⟩
abbrev mX1_find : tv_M := (cX1_find, 9, RX1, (Option.some FieldType.int), false)
theorem tX1_find : tv_mt yX1_find mX1_find 3 := ⟨q1482, q83, rfl, (fun h => nomatch h), by decide +kernel, by decide +kernel, by decide⟩
abbrev mX1_isFound : tv_M := (cX1_isFound, 10, RX1, (Option.some FieldType.boolean), false)
theorem tX1_isFound : tv_mt yX1_isFound mX1_isFound 5 := ⟨q1486, q83, rfl, (fun h => nomatch h), by decide +kernel, by decide +kernel, by decide⟩
abbrev mX1_floor : tv_M := (cX1_floor, 4, RX1, (Option.some FieldType.int), false)
theorem tX1_floor : tv_mt yX1_floor mX1_floor 2 := ⟨q1490, q83, rfl, (fun h => nomatch h), by decide +kernel, by decide +kernel, by decide⟩
abbrev mX1_place : tv_M := (cX1_place, 7, RX1, (Option.some FieldType.boolean), false)
theorem tX1_place : tv_mt yX1_place mX1_place 5 := ⟨q1494, q83, rfl, (fun h => nomatch h), by decide +kernel, by decide +kernel, by decide⟩
abbrev mX1_isPlace : tv_M := (cX1_isPlace, 4, RX1, (Option.some FieldType.boolean), false)
theorem tX1_isPlace : tv_mt yX1_isPlace mX1_isPlace 3 := ⟨q1498, q83, rfl, (fun h => nomatch h), by decide +kernel, by decide +kernel, by decide⟩
abbrev mX1_isFloor : tv_M := (cX1_isFloor, 2, RX1, (Option.some FieldType.boolean), false)
theorem tX1_isFloor : tv_mt yX1_isFloor mX1_isFloor 1 := ⟨q1502, q83, rfl, (fun h => nomatch h), by decide +kernel, by decide +kernel, by decide⟩
abbrev mX1_stock : tv_M := (cX1_stock, 4, RX1, (Option.some FieldType.boolean), false)
theorem tX1_stock : tv_mt yX1_stock mX1_stock 3 := ⟨q1506, q83, rfl, (fun h => nomatch h), by decide +kernel, by decide +kernel, by decide⟩
abbrev mX1_shown : tv_M := (cX1_shown, 6, RX1, (Option.some FieldType.int), false)
theorem tX1_shown : tv_mt yX1_shown mX1_shown 3 := ⟨q1510, q83, rfl, (fun h => nomatch h), by decide +kernel, by decide +kernel, by decide⟩
abbrev mX1_fill : tv_M := (cX1_fill, 2, RX1, (Option.some FieldType.int), false)
theorem tX1_fill : tv_mt yX1_fill mX1_fill 1 := ⟨q1514, q83, rfl, (fun h => nomatch h), by decide +kernel, by decide +kernel, by decide⟩
abbrev mX1_starts : tv_M := (cX1_starts, 7, RX1, (Option.some FieldType.boolean), false)
theorem tX1_starts : tv_mt yX1_starts mX1_starts 1 := ⟨q1518, q83, rfl, (fun h => nomatch h), by decide +kernel, by decide +kernel, by decide⟩
abbrev mX1_mayLie : tv_M := (cX1_mayLie, 5, RX1, (Option.some FieldType.boolean), false)
theorem tX1_mayLie : tv_mt yX1_mayLie mX1_mayLie 2 := ⟨q1522, q83, rfl, (fun h => nomatch h), by decide +kernel, by decide +kernel, by decide⟩
abbrev mX1_lyingAt : tv_M := (cX1_lyingAt, 4, RX1, (Option.some FieldType.int), false)
theorem tX1_lyingAt : tv_mt yX1_lyingAt mX1_lyingAt 2 := ⟨q1526, q83, rfl, (fun h => nomatch h), by decide +kernel, by decide +kernel, by decide⟩
abbrev mX1_search : tv_M := (cX1_search, 7, RX1, (Option.none : Option FieldType), false)
theorem tX1_search : tv_mt yX1_search mX1_search 2 := ⟨q1530, q83, rfl, (fun h => nomatch h), by decide +kernel, by decide +kernel, by decide⟩
abbrev mX1_leastCost : tv_M := (cX1_leastCost, 4, RX1, (Option.some FieldType.int), false)
theorem tX1_leastCost : tv_mt yX1_leastCost mX1_leastCost 0 := ⟨q1534, q83, rfl, (fun h => nomatch h), by decide +kernel, by decide +kernel, by decide⟩
abbrev mX1_nextPlace : tv_M := (cX1_nextPlace, 5, RX1, (Option.some FieldType.int), false)
theorem tX1_nextPlace : tv_mt yX1_nextPlace mX1_nextPlace 0 := ⟨q1538, q83, rfl, (fun h => nomatch h), by decide +kernel, by decide +kernel, by decide⟩
abbrev mX1_fitting : tv_M := (cX1_fitting, 4, RX1, (Option.some FieldType.int), false)
theorem tX1_fitting : tv_mt yX1_fitting mX1_fitting 1 := ⟨q1542, q83, rfl, (fun h => nomatch h), by decide +kernel, by decide +kernel, by decide⟩
abbrev mX1_nextFitting : tv_M := (cX1_nextFitting, 5, RX1, (Option.some FieldType.int), false)
theorem tX1_nextFitting : tv_mt yX1_nextFitting mX1_nextFitting 2 := ⟨q1546, q83, rfl, (fun h => nomatch h), by decide +kernel, by decide +kernel, by decide⟩
abbrev mX1_show : tv_M := (cX1_show, 2, RX1, (Option.none : Option FieldType), false)
theorem tX1_show : tv_mt yX1_show mX1_show 0 := ⟨q1550, q83, rfl, (fun h => nomatch h), by decide +kernel, by decide +kernel, by decide⟩
abbrev mX1_takeBack : tv_M := (cX1_takeBack, 3, RX1, (Option.none : Option FieldType), false)
theorem tX1_takeBack : tv_mt yX1_takeBack mX1_takeBack 1 := ⟨q1554, q83, rfl, (fun h => nomatch h), by decide +kernel, by decide +kernel, by decide⟩
abbrev mX1_lay : tv_M := (cX1_lay, 3, RX1, (Option.none : Option FieldType), false)
theorem tX1_lay : tv_mt yX1_lay mX1_lay 2 := ⟨q1559, q83, rfl, (fun h => nomatch h), by decide +kernel, by decide +kernel, by decide⟩
abbrev mX1_fills : tv_M := (cX1_fills, 3, RX1, (Option.some FieldType.int), false)
theorem tX1_fills : tv_mt yX1_fills mX1_fills 2 := ⟨q1563, q83, rfl, (fun h => nomatch h), by decide +kernel, by decide +kernel, by decide⟩
abbrev mX1_cheapest : tv_M := (cX1_cheapest, 2, RX1, (Option.some FieldType.int), false)
theorem tX1_cheapest : tv_mt yX1_cheapest mX1_cheapest 1 := ⟨q1567, q83, rfl, (fun h => nomatch h), by decide +kernel, by decide +kernel, by decide⟩
abbrev mX1_forced : tv_M := (cX1_forced, 7, RX1, (Option.some FieldType.int), false)
theorem tX1_forced : tv_mt yX1_forced mX1_forced 1 := ⟨q1572, q83, rfl, (fun h => nomatch h), by decide +kernel, by decide +kernel, by decide⟩
abbrev mX1_about : tv_M := (cX1_about, 2, RX1, (Option.some FieldType.int), false)
theorem tX1_about : tv_mt yX1_about mX1_about 1 := ⟨q1576, q83, rfl, (fun h => nomatch h), by decide +kernel, by decide +kernel, by decide⟩
abbrev mJ3_checkIndex : tv_M := (cJ3_checkIndex, 2, RJ3, (Option.some FieldType.int), false)
theorem tJ3_checkIndex : tv_mt yJ3_checkIndex mJ3_checkIndex 2 := ⟨q216, q84, rfl, (fun h => nomatch h), by decide +kernel, by decide +kernel, by decide⟩
abbrev mJ4_checkIndex : tv_M := (cJ4_checkIndex, 3, RJ4, (Option.some FieldType.int), false)
theorem tJ4_checkIndex : tv_mt yJ4_checkIndex mJ4_checkIndex 3 := ⟨q219, q85, rfl, (fun h => nomatch h), by decide +kernel, by decide +kernel, by decide⟩
theorem fX2_7_2 : tv_fl RX2 7 2 0 := ⟨_, _, _, "TileOffice$Tile", rfl, by decide, Or.inl q236, Or.inl rfl⟩
theorem pX2_7_2 : tv_fp RX2 7 2 0 (.array .int) true := ⟨_, _, _, "TileOffice$Tile", rfl, by decide, Or.inl q236, Or.inl rfl, rfl, (fun _ => rfl), by decide +kernel⟩
theorem fX2_13_2 : tv_fl RX2 13 2 1 := ⟨_, _, _, "TileOffice$Tile", rfl, by decide, Or.inl q238, Or.inl rfl⟩
theorem pX2_13_2 : tv_fp RX2 13 2 1 .int true := ⟨_, _, _, "TileOffice$Tile", rfl, by decide, Or.inl q238, Or.inl rfl, rfl, (fun _ => rfl), by decide +kernel⟩
theorem fX2_21_2 : tv_fl RX2 21 2 2 := ⟨_, _, _, "TileOffice$Tile", rfl, by decide, Or.inl q239, Or.inl rfl⟩
theorem pX2_21_2 : tv_fp RX2 21 2 2 .int true := ⟨_, _, _, "TileOffice$Tile", rfl, by decide, Or.inl q239, Or.inl rfl, rfl, (fun _ => rfl), by decide +kernel⟩
theorem fX2_17_2 : tv_fl RX2 17 2 3 := ⟨_, _, _, "TileOffice$Tile", rfl, by decide, Or.inl q241, Or.inl rfl⟩
theorem pX2_17_2 : tv_fp RX2 17 2 3 .boolean true := ⟨_, _, _, "TileOffice$Tile", rfl, by decide, Or.inl q241, Or.inl rfl, rfl, (fun _ => rfl), by decide +kernel⟩
theorem fX2_24_2 : tv_fl RX2 24 2 4 := ⟨_, _, _, "TileOffice$Tile", rfl, by decide, Or.inl q242, Or.inl rfl⟩
theorem pX2_24_2 : tv_fp RX2 24 2 4 .long true := ⟨_, _, _, "TileOffice$Tile", rfl, by decide, Or.inl q242, Or.inl rfl, rfl, (fun _ => rfl), by decide +kernel⟩
abbrev mX2_init : tv_M := (cX2_init, 8, RX2, (Option.none : Option FieldType), true)
theorem tX2_init : tv_mt yX2_init mX2_init 5 := ⟨q234, q86, rfl, (fun _ => rfl), by decide +kernel, by decide +kernel, by decide⟩
abbrev mX2_lies : tv_M := (cX2_lies, 2, RX2, (Option.some FieldType.int), false)
theorem tX2_lies : tv_mt yX2_lies mX2_lies 1 := ⟨q329, q86, rfl, (fun h => nomatch h), by decide +kernel, by decide +kernel, by decide⟩
abbrev mX2_colour : tv_M := (cX2_colour, 3, RX2, (Option.some FieldType.int), false)
theorem tX2_colour : tv_mt yX2_colour mX2_colour 2 := ⟨q336, q86, rfl, (fun h => nomatch h), by decide +kernel, by decide +kernel, by decide⟩
abbrev mJ5_newLength : tv_M := (cJ5_newLength, 4, RJ5, (Option.some FieldType.int), false)
theorem tJ5_newLength : tv_mt yJ5_newLength mJ5_newLength 3 := ⟨q274, q87, rfl, (fun h => nomatch h), by decide +kernel, by decide +kernel, by decide⟩
abbrev mJ5_hugeLength : tv_M := (cJ5_hugeLength, 3, RJ5, (Option.some FieldType.int), false)
theorem tJ5_hugeLength : tv_mt yJ5_hugeLength mJ5_hugeLength 2 := ⟨q281, q87, rfl, (fun h => nomatch h), by decide +kernel, by decide +kernel, by decide⟩
abbrev mJ6_max : tv_M := (cJ6_max, 2, RJ6, (Option.some FieldType.int), false)
abbrev mJ6_min : tv_M := (cJ6_min, 2, RJ6, (Option.some FieldType.int), false)
abbrev mJ6_abs : tv_M := (cJ6_abs, 1, RJ6, (Option.some FieldType.int), false)
abbrev mJ6_multiplyExact : tv_M := (cJ6_multiplyExact, 10, RJ6, (Option.some FieldType.long), false)
abbrev mJ6_abs_2 : tv_M := (cJ6_abs_2, 2, RJ6, (Option.some FieldType.long), false)
abbrev mJ6_addExact : tv_M := (cJ6_addExact, 6, RJ6, (Option.some FieldType.long), false)
abbrev mJ7_copyOf : tv_M := (cJ7_copyOf, 2, RJ7, (Option.some (FieldType.array (FieldType.object "java/lang/Object"))), false)
theorem tJ7_copyOf : tv_mt yJ7_copyOf mJ7_copyOf 2 := ⟨q284, q89, rfl, (fun h => nomatch h), by decide +kernel, by decide +kernel, by decide⟩
abbrev mJ7_copyOf_2 : tv_M := (cJ7_copyOf_2, 4, RJ7, (Option.some (FieldType.array (FieldType.object "java/lang/Object"))), false)
theorem tJ7_copyOf_2 : tv_mt yJ7_copyOf_2 mJ7_copyOf_2 3 := ⟨q303, q89, rfl, (fun h => nomatch h), by decide +kernel, by decide +kernel, by decide⟩
abbrev mX3_turns : tv_M := (cX3_turns, 1, RX3, (Option.some FieldType.int), false)
theorem tX3_turns : tv_mt yX3_turns mX3_turns 1 := ⟨q332, q91, rfl, (fun h => nomatch h), by decide +kernel, by decide +kernel, by decide⟩
abbrev mX3_edge : tv_M := (cX3_edge, 3, RX3, (Option.some FieldType.int), false)
theorem tX3_edge : tv_mt yX3_edge mX3_edge 2 := ⟨q339, q91, rfl, (fun h => nomatch h), by decide +kernel, by decide +kernel, by decide⟩
abbrev mX3_mirror : tv_M := (cX3_mirror, 1, RX3, (Option.some FieldType.int), false)
theorem tX3_mirror : tv_mt yX3_mirror mX3_mirror 1 := ⟨q343, q91, rfl, (fun h => nomatch h), by decide +kernel, by decide +kernel, by decide⟩
abbrev mX3_then : tv_M := (cX3_then, 3, RX3, (Option.some FieldType.int), false)
theorem tX3_then : tv_mt yX3_then mX3_then 2 := ⟨q350, q91, rfl, (fun h => nomatch h), by decide +kernel, by decide +kernel, by decide⟩
abbrev mX3_row : tv_M := (cX3_row, 4, RX3, (Option.some FieldType.int), false)
theorem tX3_row : tv_mt yX3_row mX3_row 4 := ⟨q592, q91, rfl, (fun h => nomatch h), by decide +kernel, by decide +kernel, by decide⟩
abbrev mX3_column : tv_M := (cX3_column, 5, RX3, (Option.some FieldType.int), false)
theorem tX3_column : tv_mt yX3_column mX3_column 4 := ⟨q595, q91, rfl, (fun h => nomatch h), by decide +kernel, by decide +kernel, by decide⟩
theorem fX4_10_3 : tv_fl RX4 10 3 0 := ⟨_, _, _, "TileOffice$Pattern", rfl, by decide, Or.inl q363, Or.inl rfl⟩
theorem pX4_10_3 : tv_fp RX4 10 3 0 (.object "java/util/ArrayList") false := ⟨_, _, _, "TileOffice$Pattern", rfl, by decide, Or.inl q363, Or.inl rfl, rfl, (fun h => nomatch h), by decide +kernel⟩
theorem fX4_34_5 : tv_fl RX4 34 5 0 := ⟨_, _, _, "TileOffice$Row", rfl, by decide, Or.inl q432, Or.inl rfl⟩
theorem fX4_42_5 : tv_fl RX4 42 5 3 := ⟨_, _, _, "TileOffice$Row", rfl, by decide, Or.inl q439, Or.inl rfl⟩
abbrev mX4_init : tv_M := (cX4_init, 1, RX4, (Option.none : Option FieldType), true)
theorem tX4_init : tv_mt yX4_init mX4_init 0 := ⟨q359, q92, rfl, (fun _ => rfl), by decide +kernel, by decide +kernel, by decide⟩
abbrev mX4_row : tv_M := (cX4_row, 2, RX4, (Option.some (FieldType.object "TileOffice$Row")), false)
theorem tX4_row : tv_mt yX4_row mX4_row 1 := ⟨q468, q92, rfl, (fun h => nomatch h), by decide +kernel, by decide +kernel, by decide⟩
abbrev mX4_at : tv_M := (cX4_at, 4, RX4, (Option.some (FieldType.object "TileOffice$Row")), false)
theorem tX4_at : tv_mt yX4_at mX4_at 2 := ⟨q491, q92, rfl, (fun h => nomatch h), by decide +kernel, by decide +kernel, by decide⟩
abbrev mX4_isFull : tv_M := (cX4_isFull, 4, RX4, (Option.some FieldType.boolean), false)
theorem tX4_isFull : tv_mt yX4_isFull mX4_isFull 0 := ⟨q826, q92, rfl, (fun h => nomatch h), by decide +kernel, by decide +kernel, by decide⟩
abbrev mX4_columns : tv_M := (cX4_columns, 1, RX4, (Option.some FieldType.int), false)
theorem tX4_columns : tv_mt yX4_columns mX4_columns 0 := ⟨q841, q92, rfl, (fun h => nomatch h), by decide +kernel, by decide +kernel, by decide⟩
theorem fX5_15_3 : tv_fl RX5 15 3 0 := ⟨_, _, _, "TileOffice$Pattern", rfl, by decide, Or.inl q364, Or.inl rfl⟩
theorem pX5_15_3 : tv_fp RX5 15 3 0 (.object "java/util/ArrayList") false := ⟨_, _, _, "TileOffice$Pattern", rfl, by decide, Or.inl q364, Or.inl rfl, rfl, (fun h => nomatch h), by decide +kernel⟩
theorem fX5_7_4 : tv_fl RX5 7 4 0 := ⟨_, _, _, "TileOffice$Change", rfl, by decide, Or.inl q416, Or.inl rfl⟩
theorem pX5_7_4 : tv_fp RX5 7 4 0 (.object "TileOffice$Pattern") true := ⟨_, _, _, "TileOffice$Change", rfl, by decide, Or.inl q416, Or.inl rfl, rfl, (fun _ => rfl), by decide +kernel⟩
theorem fX5_24_4 : tv_fl RX5 24 4 1 := ⟨_, _, _, "TileOffice$Change", rfl, by decide, Or.inl q418, Or.inl rfl⟩
theorem pX5_24_4 : tv_fp RX5 24 4 1 (.object "java/util/ArrayList") true := ⟨_, _, _, "TileOffice$Change", rfl, by decide, Or.inl q418, Or.inl rfl, rfl, (fun _ => rfl), by decide +kernel⟩
abbrev mX5_init : tv_M := (cX5_init, 2, RX5, (Option.none : Option FieldType), true)
theorem tX5_init : tv_mt yX5_init mX5_init 1 := ⟨q389, q93, rfl, (fun _ => rfl), by decide +kernel, by decide +kernel, by decide⟩
theorem fX6_9_5 : tv_fl RX6 9 5 0 := ⟨_, _, _, "TileOffice$Row", rfl, by decide, Or.inl q431, Or.inl rfl⟩
theorem pX6_9_5 : tv_fp RX6 9 5 0 (.array .byte) true := ⟨_, _, _, "TileOffice$Row", rfl, by decide, Or.inl q431, Or.inl rfl, rfl, (fun _ => rfl), by decide +kernel⟩
theorem fX6_15_5 : tv_fl RX6 15 5 1 := ⟨_, _, _, "TileOffice$Row", rfl, by decide, Or.inl q434, Or.inl rfl⟩
theorem pX6_15_5 : tv_fp RX6 15 5 1 (.array .byte) true := ⟨_, _, _, "TileOffice$Row", rfl, by decide, Or.inl q434, Or.inl rfl, rfl, (fun _ => rfl), by decide +kernel⟩
theorem fX6_18_5 : tv_fl RX6 18 5 2 := ⟨_, _, _, "TileOffice$Row", rfl, by decide, Or.inl q436, Or.inl rfl⟩
theorem pX6_18_5 : tv_fp RX6 18 5 2 (.array .short) true := ⟨_, _, _, "TileOffice$Row", rfl, by decide, Or.inl q436, Or.inl rfl, rfl, (fun _ => rfl), by decide +kernel⟩
theorem fX6_22_5 : tv_fl RX6 22 5 3 := ⟨_, _, _, "TileOffice$Row", rfl, by decide, Or.inl q438, Or.inl rfl⟩
theorem pX6_22_5 : tv_fp RX6 22 5 3 .int true := ⟨_, _, _, "TileOffice$Row", rfl, by decide, Or.inl q438, Or.inl rfl, rfl, (fun _ => rfl), by decide +kernel⟩
abbrev mX6_init : tv_M := (cX6_init, 4, RX6, (Option.none : Option FieldType), true)
theorem tX6_init : tv_mt yX6_init mX6_init 2 := ⟨q429, q94, rfl, (fun _ => rfl), by decide +kernel, by decide +kernel, by decide⟩
abbrev mX6_has : tv_M := (cX6_has, 2, RX6, (Option.some FieldType.boolean), false)
theorem tX6_has : tv_mt yX6_has mX6_has 1 := ⟨q496, q94, rfl, (fun h => nomatch h), by decide +kernel, by decide +kernel, by decide⟩
abbrev mX6_init_2 : tv_M := (cX6_init_2, 2, RX6, (Option.none : Option FieldType), true)
theorem tX6_init_2 : tv_mt yX6_init_2 mX6_init_2 1 := ⟨q503, q94, rfl, (fun _ => rfl), by decide +kernel, by decide +kernel, by decide⟩
abbrev mX6_set : tv_M := (cX6_set, 5, RX6, (Option.none : Option FieldType), false)
theorem tX6_set : tv_mt yX6_set mX6_set 4 := ⟨q523, q94, rfl, (fun h => nomatch h), by decide +kernel, by decide +kernel, by decide⟩
theorem fX7_11_6 : tv_fl RX7 11 6 0 := ⟨_, _, _, "TileOffice$Block", rfl, by decide, Or.inl q559, Or.inl rfl⟩
theorem pX7_11_6 : tv_fp RX7 11 6 0 (.array (.array .byte)) true := ⟨_, _, _, "TileOffice$Block", rfl, by decide, Or.inl q559, Or.inl rfl, rfl, (fun _ => rfl), by decide +kernel⟩
theorem fX7_16_6 : tv_fl RX7 16 6 1 := ⟨_, _, _, "TileOffice$Block", rfl, by decide, Or.inl q561, Or.inl rfl⟩
theorem pX7_16_6 : tv_fp RX7 16 6 1 (.array (.array .byte)) true := ⟨_, _, _, "TileOffice$Block", rfl, by decide, Or.inl q561, Or.inl rfl, rfl, (fun _ => rfl), by decide +kernel⟩
theorem fX7_21_6 : tv_fl RX7 21 6 2 := ⟨_, _, _, "TileOffice$Block", rfl, by decide, Or.inl q563, Or.inl rfl⟩
theorem pX7_21_6 : tv_fp RX7 21 6 2 (.array (.array .short)) true := ⟨_, _, _, "TileOffice$Block", rfl, by decide, Or.inl q563, Or.inl rfl, rfl, (fun _ => rfl), by decide +kernel⟩
theorem fX7_43_0 : tv_fl RX7 43 0 0 := ⟨_, _, _, "TileOffice", rfl, by decide, Or.inr ⟨_, q146⟩, Or.inl rfl⟩
abbrev mX7_init : tv_M := (cX7_init, 8, RX7, (Option.none : Option FieldType), true)
theorem tX7_init : tv_mt yX7_init mX7_init 2 := ⟨q553, q95, rfl, (fun _ => rfl), by decide +kernel, by decide +kernel, by decide⟩
abbrev mX7_moved : tv_M := (cX7_moved, 12, RX7, (Option.some (FieldType.object "TileOffice$Block")), false)
theorem tX7_moved : tv_mt yX7_moved mX7_moved 2 := ⟨q579, q95, rfl, (fun h => nomatch h), by decide +kernel, by decide +kernel, by decide⟩
abbrev mX7_rows : tv_M := (cX7_rows, 1, RX7, (Option.some FieldType.int), false)
theorem tX7_rows : tv_mt yX7_rows mX7_rows 0 := ⟨q583, q95, rfl, (fun h => nomatch h), by decide +kernel, by decide +kernel, by decide⟩
abbrev mX7_columns : tv_M := (cX7_columns, 1, RX7, (Option.some FieldType.int), false)
theorem tX7_columns : tv_mt yX7_columns mX7_columns 0 := ⟨q587, q95, rfl, (fun h => nomatch h), by decide +kernel, by decide +kernel, by decide⟩
theorem fX8_17_7 : tv_fl RX8 17 7 0 := ⟨_, _, _, "TileOffice$Rule", rfl, by decide, Or.inl q618, Or.inl rfl⟩
theorem pX8_17_7 : tv_fp RX8 17 7 0 .int true := ⟨_, _, _, "TileOffice$Rule", rfl, by decide, Or.inl q618, Or.inl rfl, rfl, (fun _ => rfl), by decide +kernel⟩
theorem fX8_21_7 : tv_fl RX8 21 7 1 := ⟨_, _, _, "TileOffice$Rule", rfl, by decide, Or.inl q620, Or.inl rfl⟩
theorem pX8_21_7 : tv_fp RX8 21 7 1 .int true := ⟨_, _, _, "TileOffice$Rule", rfl, by decide, Or.inl q620, Or.inl rfl, rfl, (fun _ => rfl), by decide +kernel⟩
theorem fX8_11_7 : tv_fl RX8 11 7 2 := ⟨_, _, _, "TileOffice$Rule", rfl, by decide, Or.inl q622, Or.inl rfl⟩
theorem pX8_11_7 : tv_fp RX8 11 7 2 (.array (.object "TileOffice$Block")) true := ⟨_, _, _, "TileOffice$Rule", rfl, by decide, Or.inl q622, Or.inl rfl, rfl, (fun _ => rfl), by decide +kernel⟩
abbrev mX8_init : tv_M := (cX8_init, 3, RX8, (Option.none : Option FieldType), true)
theorem tX8_init : tv_mt yX8_init mX8_init 2 := ⟨q614, q96, rfl, (fun _ => rfl), by decide +kernel, by decide +kernel, by decide⟩
abbrev mX8_block : tv_M := (cX8_block, 2, RX8, (Option.some (FieldType.object "TileOffice$Block")), false)
theorem tX8_block : tv_mt yX8_block mX8_block 1 := ⟨q641, q96, rfl, (fun h => nomatch h), by decide +kernel, by decide +kernel, by decide⟩
theorem fJ8_198_10 : tv_fl RJ8 198 10 0 := ⟨_, _, _, "java/lang/Throwable", rfl, by decide, Or.inl q754, Or.inl rfl⟩
theorem pJ8_198_10 : tv_fp RJ8 198 10 0 (.object "java/lang/Object") false := ⟨_, _, _, "java/lang/Throwable", rfl, by decide, Or.inl q754, Or.inl rfl, rfl, (fun h => nomatch h), by decide +kernel⟩
theorem fJ8_198_11 : tv_fl RJ8 198 11 4 := ⟨_, _, _, "java/lang/Throwable", rfl, by decide, Or.inl q754, Or.inl rfl⟩
theorem pJ8_198_11 : tv_fp RJ8 198 11 4 (.object "java/lang/Object") false := ⟨_, _, _, "java/lang/Throwable", rfl, by decide, Or.inl q754, Or.inl rfl, rfl, (fun h => nomatch h), by decide +kernel⟩
theorem fJ8_31_10 : tv_fl RJ8 31 10 1 := ⟨_, _, _, "java/lang/Throwable", rfl, by decide, Or.inl q724, Or.inl rfl⟩
theorem pJ8_31_10 : tv_fp RJ8 31 10 1 (.object "java/lang/String") false := ⟨_, _, _, "java/lang/Throwable", rfl, by decide, Or.inl q724, Or.inl rfl, rfl, (fun h => nomatch h), by decide +kernel⟩
theorem fJ8_31_11 : tv_fl RJ8 31 11 3 := ⟨_, _, _, "java/lang/Throwable", rfl, by decide, Or.inl q724, Or.inl rfl⟩
theorem pJ8_31_11 : tv_fp RJ8 31 11 3 (.object "java/lang/String") false := ⟨_, _, _, "java/lang/Throwable", rfl, by decide, Or.inl q724, Or.inl rfl, rfl, (fun h => nomatch h), by decide +kernel⟩
theorem fJ8_7_10 : tv_fl RJ8 7 10 2 := ⟨_, _, _, "java/lang/Throwable", rfl, by decide, Or.inl q725, Or.inl rfl⟩
theorem pJ8_7_10 : tv_fp RJ8 7 10 2 (.object "java/lang/Throwable") false := ⟨_, _, _, "java/lang/Throwable", rfl, by decide, Or.inl q725, Or.inl rfl, rfl, (fun h => nomatch h), by decide +kernel⟩
theorem fJ8_7_11 : tv_fl RJ8 7 11 0 := ⟨_, _, _, "java/lang/Throwable", rfl, by decide, Or.inl q725, Or.inl rfl⟩
theorem pJ8_7_11 : tv_fp RJ8 7 11 0 (.object "java/lang/Throwable") false := ⟨_, _, _, "java/lang/Throwable", rfl, by decide, Or.inl q725, Or.inl rfl, rfl, (fun h => nomatch h), by decide +kernel⟩
theorem fJ8_17_10 : tv_fl RJ8 17 10 3 := ⟨_, _, _, "java/lang/Throwable", rfl, by decide, Or.inl q726, Or.inl rfl⟩
theorem pJ8_17_10 : tv_fp RJ8 17 10 3 (.array (.object "java/lang/StackTraceElement")) false := ⟨_, _, _, "java/lang/Throwable", rfl, by decide, Or.inl q726, Or.inl rfl, rfl, (fun h => nomatch h), by decide +kernel⟩
theorem fJ8_17_11 : tv_fl RJ8 17 11 1 := ⟨_, _, _, "java/lang/Throwable", rfl, by decide, Or.inl q726, Or.inl rfl⟩
theorem pJ8_17_11 : tv_fp RJ8 17 11 1 (.array (.object "java/lang/StackTraceElement")) false := ⟨_, _, _, "java/lang/Throwable", rfl, by decide, Or.inl q726, Or.inl rfl, rfl, (fun h => nomatch h), by decide +kernel⟩
theorem fJ8_24_10 : tv_fl RJ8 24 10 5 := ⟨_, _, _, "java/lang/Throwable", rfl, by decide, Or.inl q727, Or.inl rfl⟩
theorem pJ8_24_10 : tv_fp RJ8 24 10 5 (.object "java/util/List") false := ⟨_, _, _, "java/lang/Throwable", rfl, by decide, Or.inl q727, Or.inl rfl, rfl, (fun h => nomatch h), by decide +kernel⟩
theorem fJ8_24_11 : tv_fl RJ8 24 11 2 := ⟨_, _, _, "java/lang/Throwable", rfl, by decide, Or.inl q727, Or.inl rfl⟩
theorem pJ8_24_11 : tv_fp RJ8 24 11 2 (.object "java/util/List") false := ⟨_, _, _, "java/lang/Throwable", rfl, by decide, Or.inl q727, Or.inl rfl, rfl, (fun h => nomatch h), by decide +kernel⟩
abbrev mJ8_init : tv_M := (cJ8_init, 2, RJ8, (Option.none : Option FieldType), true)
theorem tJ8_init : tv_mt yJ8_init mJ8_init 1 := ⟨q706, q97, rfl, (fun _ => rfl), by decide +kernel, by decide +kernel, by decide⟩
abbrev mJ8_init_2 : tv_M := (cJ8_init_2, 1, RJ8, (Option.none : Option FieldType), true)
theorem tJ8_init_2 : tv_mt yJ8_init_2 mJ8_init_2 0 := ⟨q757, q97, rfl, (fun _ => rfl), by decide +kernel, by decide +kernel, by decide⟩
abbrev mJ8_init_3 : tv_M := (cJ8_init_3, 5, RJ8, (Option.none : Option FieldType), true)
theorem tJ8_init_3 : tv_mt yJ8_init_3 mJ8_init_3 4 := ⟨q793, q97, rfl, (fun _ => rfl), by decide +kernel, by decide +kernel, by decide⟩
abbrev mJ9_init : tv_M := (cJ9_init, 2, RJ9, (Option.none : Option FieldType), true)
theorem tJ9_init : tv_mt yJ9_init mJ9_init 1 := ⟨q703, q98, rfl, (fun _ => rfl), by decide +kernel, by decide +kernel, by decide⟩
abbrev mJ9_init_2 : tv_M := (cJ9_init_2, 5, RJ9, (Option.none : Option FieldType), true)
theorem tJ9_init_2 : tv_mt yJ9_init_2 mJ9_init_2 4 := ⟨q790, q98, rfl, (fun _ => rfl), by decide +kernel, by decide +kernel, by decide⟩
abbrev mJ10_init : tv_M := (cJ10_init, 2, RJ10, (Option.none : Option FieldType), true)
theorem tJ10_init : tv_mt yJ10_init mJ10_init 1 := ⟨q700, q99, rfl, (fun _ => rfl), by decide +kernel, by decide +kernel, by decide⟩
abbrev mJ11_init : tv_M := (cJ11_init, 2, RJ11, (Option.none : Option FieldType), true)
theorem tJ11_init : tv_mt yJ11_init mJ11_init 1 := ⟨q697, q100, rfl, (fun _ => rfl), by decide +kernel, by decide +kernel, by decide⟩
abbrev mX9_init : tv_M := (cX9_init, 2, RX9, (Option.none : Option FieldType), true)
theorem tX9_init : tv_mt yX9_init mX9_init 1 := ⟨q787, q102, rfl, (fun _ => rfl), by decide +kernel, by decide +kernel, by decide⟩
theorem fX10_113_2 : tv_fl RX10 113 2 2 := ⟨_, _, _, "TileOffice$Tile", rfl, by decide, Or.inl q240, Or.inl rfl⟩
theorem fX10_22_8 : tv_fl RX10 22 8 0 := ⟨_, _, _, "TileOffice$Floor", rfl, by decide, Or.inl q874, Or.inl rfl⟩
theorem pX10_22_8 : tv_fp RX10 22 8 0 .int true := ⟨_, _, _, "TileOffice$Floor", rfl, by decide, Or.inl q874, Or.inl rfl, rfl, (fun _ => rfl), by decide +kernel⟩
theorem fX10_26_8 : tv_fl RX10 26 8 1 := ⟨_, _, _, "TileOffice$Floor", rfl, by decide, Or.inl q875, Or.inl rfl⟩
theorem pX10_26_8 : tv_fp RX10 26 8 1 .int true := ⟨_, _, _, "TileOffice$Floor", rfl, by decide, Or.inl q875, Or.inl rfl, rfl, (fun _ => rfl), by decide +kernel⟩
theorem fX10_31_8 : tv_fl RX10 31 8 2 := ⟨_, _, _, "TileOffice$Floor", rfl, by decide, Or.inl q876, Or.inl rfl⟩
theorem pX10_31_8 : tv_fp RX10 31 8 2 (.array (.array .int)) true := ⟨_, _, _, "TileOffice$Floor", rfl, by decide, Or.inl q876, Or.inl rfl, rfl, (fun _ => rfl), by decide +kernel⟩
theorem fX10_15_8 : tv_fl RX10 15 8 3 := ⟨_, _, _, "TileOffice$Floor", rfl, by decide, Or.inl q877, Or.inl rfl⟩
theorem pX10_15_8 : tv_fp RX10 15 8 3 (.array .int) true := ⟨_, _, _, "TileOffice$Floor", rfl, by decide, Or.inl q877, Or.inl rfl, rfl, (fun _ => rfl), by decide +kernel⟩
theorem fX10_19_8 : tv_fl RX10 19 8 4 := ⟨_, _, _, "TileOffice$Floor", rfl, by decide, Or.inl q879, Or.inl rfl⟩
theorem pX10_19_8 : tv_fp RX10 19 8 4 (.array .int) true := ⟨_, _, _, "TileOffice$Floor", rfl, by decide, Or.inl q879, Or.inl rfl, rfl, (fun _ => rfl), by decide +kernel⟩
theorem fX10_34_8 : tv_fl RX10 34 8 5 := ⟨_, _, _, "TileOffice$Floor", rfl, by decide, Or.inl q880, Or.inl rfl⟩
theorem pX10_34_8 : tv_fp RX10 34 8 5 (.array (.array .int)) true := ⟨_, _, _, "TileOffice$Floor", rfl, by decide, Or.inl q880, Or.inl rfl, rfl, (fun _ => rfl), by decide +kernel⟩
theorem fX10_37_8 : tv_fl RX10 37 8 6 := ⟨_, _, _, "TileOffice$Floor", rfl, by decide, Or.inl q881, Or.inl rfl⟩
theorem pX10_37_8 : tv_fp RX10 37 8 6 (.array (.array .int)) true := ⟨_, _, _, "TileOffice$Floor", rfl, by decide, Or.inl q881, Or.inl rfl, rfl, (fun _ => rfl), by decide +kernel⟩
theorem fX10_40_8 : tv_fl RX10 40 8 7 := ⟨_, _, _, "TileOffice$Floor", rfl, by decide, Or.inl q882, Or.inl rfl⟩
theorem pX10_40_8 : tv_fp RX10 40 8 7 (.array (.array .int)) true := ⟨_, _, _, "TileOffice$Floor", rfl, by decide, Or.inl q882, Or.inl rfl, rfl, (fun _ => rfl), by decide +kernel⟩
theorem fX10_45_8 : tv_fl RX10 45 8 8 := ⟨_, _, _, "TileOffice$Floor", rfl, by decide, Or.inl q883, Or.inl rfl⟩
theorem pX10_45_8 : tv_fp RX10 45 8 8 (.array (.array .boolean)) true := ⟨_, _, _, "TileOffice$Floor", rfl, by decide, Or.inl q883, Or.inl rfl, rfl, (fun _ => rfl), by decide +kernel⟩
theorem fX10_85_8 : tv_fl RX10 85 8 9 := ⟨_, _, _, "TileOffice$Floor", rfl, by decide, Or.inl q884, Or.inl rfl⟩
theorem pX10_85_8 : tv_fp RX10 85 8 9 .boolean false := ⟨_, _, _, "TileOffice$Floor", rfl, by decide, Or.inl q884, Or.inl rfl, rfl, (fun h => nomatch h), by decide +kernel⟩
theorem fX10_89_8 : tv_fl RX10 89 8 10 := ⟨_, _, _, "TileOffice$Floor", rfl, by decide, Or.inl q885, Or.inl rfl⟩
theorem pX10_89_8 : tv_fp RX10 89 8 10 .int false := ⟨_, _, _, "TileOffice$Floor", rfl, by decide, Or.inl q885, Or.inl rfl, rfl, (fun h => nomatch h), by decide +kernel⟩
theorem fX10_92_8 : tv_fl RX10 92 8 11 := ⟨_, _, _, "TileOffice$Floor", rfl, by decide, Or.inl q886, Or.inl rfl⟩
theorem pX10_92_8 : tv_fp RX10 92 8 11 .int false := ⟨_, _, _, "TileOffice$Floor", rfl, by decide, Or.inl q886, Or.inl rfl, rfl, (fun h => nomatch h), by decide +kernel⟩
theorem fX10_124_8 : tv_fl RX10 124 8 12 := ⟨_, _, _, "TileOffice$Floor", rfl, by decide, Or.inl q887, Or.inl rfl⟩
theorem pX10_124_8 : tv_fp RX10 124 8 12 .int false := ⟨_, _, _, "TileOffice$Floor", rfl, by decide, Or.inl q887, Or.inl rfl, rfl, (fun h => nomatch h), by decide +kernel⟩
theorem fX10_101_8 : tv_fl RX10 101 8 13 := ⟨_, _, _, "TileOffice$Floor", rfl, by decide, Or.inl q888, Or.inl rfl⟩
theorem pX10_101_8 : tv_fp RX10 101 8 13 .int false := ⟨_, _, _, "TileOffice$Floor", rfl, by decide, Or.inl q888, Or.inl rfl, rfl, (fun h => nomatch h), by decide +kernel⟩
theorem fX10_95_8 : tv_fl RX10 95 8 14 := ⟨_, _, _, "TileOffice$Floor", rfl, by decide, Or.inl q889, Or.inl rfl⟩
theorem pX10_95_8 : tv_fp RX10 95 8 14 .int false := ⟨_, _, _, "TileOffice$Floor", rfl, by decide, Or.inl q889, Or.inl rfl, rfl, (fun h => nomatch h), by decide +kernel⟩
theorem fX10_107_8 : tv_fl RX10 107 8 15 := ⟨_, _, _, "TileOffice$Floor", rfl, by decide, Or.inl q890, Or.inl rfl⟩
theorem pX10_107_8 : tv_fp RX10 107 8 15 .int false := ⟨_, _, _, "TileOffice$Floor", rfl, by decide, Or.inl q890, Or.inl rfl, rfl, (fun h => nomatch h), by decide +kernel⟩
theorem fX10_110_8 : tv_fl RX10 110 8 16 := ⟨_, _, _, "TileOffice$Floor", rfl, by decide, Or.inl q891, Or.inl rfl⟩
theorem pX10_110_8 : tv_fp RX10 110 8 16 .int false := ⟨_, _, _, "TileOffice$Floor", rfl, by decide, Or.inl q891, Or.inl rfl, rfl, (fun h => nomatch h), by decide +kernel⟩
theorem fX10_127_8 : tv_fl RX10 127 8 17 := ⟨_, _, _, "TileOffice$Floor", rfl, by decide, Or.inl q892, Or.inl rfl⟩
theorem pX10_127_8 : tv_fp RX10 127 8 17 .boolean false := ⟨_, _, _, "TileOffice$Floor", rfl, by decide, Or.inl q892, Or.inl rfl, rfl, (fun h => nomatch h), by decide +kernel⟩
theorem fX10_104_8 : tv_fl RX10 104 8 18 := ⟨_, _, _, "TileOffice$Floor", rfl, by decide, Or.inl q893, Or.inl rfl⟩
theorem pX10_104_8 : tv_fp RX10 104 8 18 .boolean false := ⟨_, _, _, "TileOffice$Floor", rfl, by decide, Or.inl q893, Or.inl rfl, rfl, (fun h => nomatch h), by decide +kernel⟩
theorem fX10_3_8 : tv_fl RX10 3 8 19 := ⟨_, _, _, "TileOffice$Floor", rfl, by decide, Or.inl q894, Or.inl rfl⟩
theorem pX10_3_8 : tv_fp RX10 3 8 19 (.object "TileOffice") true := ⟨_, _, _, "TileOffice$Floor", rfl, by decide, Or.inl q894, Or.inl rfl, rfl, (fun _ => rfl), by decide +kernel⟩
theorem fX10_52_0 : tv_fl RX10 52 0 0 := ⟨_, _, _, "TileOffice", rfl, by decide, Or.inr ⟨_, q145⟩, Or.inl rfl⟩
theorem fX10_157_0 : tv_fl RX10 157 0 7 := ⟨_, _, _, "TileOffice", rfl, by decide, Or.inr ⟨_, q153⟩, Or.inl rfl⟩
theorem pX10_157_0 : tv_fp RX10 157 0 7 .int false := ⟨_, _, _, "TileOffice", rfl, by decide, Or.inr ⟨rfl, _, q153⟩, Or.inl rfl, rfl, (fun h => nomatch h), by decide +kernel⟩
abbrev mX10_init : tv_M := (cX10_init, 9, RX10, (Option.none : Option FieldType), true)
theorem tX10_init : tv_mt yX10_init mX10_init 3 := ⟨q869, q103, rfl, (fun _ => rfl), by decide +kernel, by decide +kernel, by decide⟩
abbrev mX10_place : tv_M := (cX10_place, 5, RX10, (Option.some FieldType.boolean), false)
theorem tX10_place : tv_mt yX10_place mX10_place 4 := ⟨q947, q103, rfl, (fun h => nomatch h), by decide +kernel, by decide +kernel, by decide⟩
abbrev mX10_has : tv_M := (cX10_has, 3, RX10, (Option.some FieldType.boolean), false)
theorem tX10_has : tv_mt yX10_has mX10_has 2 := ⟨q951, q103, rfl, (fun h => nomatch h), by decide +kernel, by decide +kernel, by decide⟩
abbrev mX10_fill : tv_M := (cX10_fill, 1, RX10, (Option.some FieldType.int), false)
theorem tX10_fill : tv_mt yX10_fill mX10_fill 0 := ⟨q966, q103, rfl, (fun h => nomatch h), by decide +kernel, by decide +kernel, by decide⟩
abbrev mX10_search : tv_M := (cX10_search, 5, RX10, (Option.none : Option FieldType), false)
theorem tX10_search : tv_mt yX10_search mX10_search 2 := ⟨q970, q103, rfl, (fun h => nomatch h), by decide +kernel, by decide +kernel, by decide⟩
abbrev mX10_begin : tv_M := (cX10_begin, 9, RX10, (Option.none : Option FieldType), false)
theorem tX10_begin : tv_mt yX10_begin mX10_begin 0 := ⟨q974, q103, rfl, (fun h => nomatch h), by decide +kernel, by decide +kernel, by decide⟩
abbrev mX10_clear : tv_M := (cX10_clear, 3, RX10, (Option.none : Option FieldType), false)
theorem tX10_clear : tv_mt yX10_clear mX10_clear 0 := ⟨q978, q103, rfl, (fun h => nomatch h), by decide +kernel, by decide +kernel, by decide⟩
abbrev mX10_isGood : tv_M := (cX10_isGood, 4, RX10, (Option.some FieldType.boolean), false)
theorem tX10_isGood : tv_mt yX10_isGood mX10_isGood 0 := ⟨q985, q103, rfl, (fun h => nomatch h), by decide +kernel, by decide +kernel, by decide⟩
abbrev mX10_fits : tv_M := (cX10_fits, 8, RX10, (Option.some FieldType.boolean), false)
theorem tX10_fits : tv_mt yX10_fits mX10_fits 4 := ⟨q989, q103, rfl, (fun h => nomatch h), by decide +kernel, by decide +kernel, by decide⟩
abbrev mX10_meets : tv_M := (cX10_meets, 7, RX10, (Option.some FieldType.boolean), false)
theorem tX10_meets : tv_mt yX10_meets mX10_meets 4 := ⟨q994, q103, rfl, (fun h => nomatch h), by decide +kernel, by decide +kernel, by decide⟩
abbrev mX10_next : tv_M := (cX10_next, 7, RX10, (Option.none : Option FieldType), false)
theorem tX10_next : tv_mt yX10_next mX10_next 0 := ⟨q998, q103, rfl, (fun h => nomatch h), by decide +kernel, by decide +kernel, by decide⟩
abbrev mX10_keep : tv_M := (cX10_keep, 2, RX10, (Option.none : Option FieldType), false)
theorem tX10_keep : tv_mt yX10_keep mX10_keep 0 := ⟨q1002, q103, rfl, (fun h => nomatch h), by decide +kernel, by decide +kernel, by decide⟩
abbrev mX10_fitting : tv_M := (cX10_fitting, 7, RX10, (Option.some FieldType.int), false)
theorem tX10_fitting : tv_mt yX10_fitting mX10_fitting 3 := ⟨q1007, q103, rfl, (fun h => nomatch h), by decide +kernel, by decide +kernel, by decide⟩
abbrev mX10_ends : tv_M := (cX10_ends, 1, RX10, (Option.some FieldType.boolean), false)
theorem tX10_ends : tv_mt yX10_ends mX10_ends 0 := ⟨q1011, q103, rfl, (fun h => nomatch h), by decide +kernel, by decide +kernel, by decide⟩
abbrev mX10_tries : tv_M := (cX10_tries, 6, RX10, (Option.none : Option FieldType), false)
theorem tX10_tries : tv_mt yX10_tries mX10_tries 4 := ⟨q1015, q103, rfl, (fun h => nomatch h), by decide +kernel, by decide +kernel, by decide⟩
abbrev mX10_fills : tv_M := (cX10_fills, 2, RX10, (Option.some FieldType.int), false)
theorem tX10_fills : tv_mt yX10_fills mX10_fills 1 := ⟨q1024, q103, rfl, (fun h => nomatch h), by decide +kernel, by decide +kernel, by decide⟩
abbrev mX10_cost : tv_M := (cX10_cost, 1, RX10, (Option.some FieldType.int), false)
theorem tX10_cost : tv_mt yX10_cost mX10_cost 0 := ⟨q1032, q103, rfl, (fun h => nomatch h), by decide +kernel, by decide +kernel, by decide⟩
abbrev mX10_forced : tv_M := (cX10_forced, 3, RX10, (Option.some FieldType.int), false)
theorem tX10_forced : tv_mt yX10_forced mX10_forced 0 := ⟨q1040, q103, rfl, (fun h => nomatch h), by decide +kernel, by decide +kernel, by decide⟩
abbrev mX10_round : tv_M := (cX10_round, 5, RX10, (Option.some FieldType.int), false)
theorem tX10_round : tv_mt yX10_round mX10_round 0 := ⟨q1044, q103, rfl, (fun h => nomatch h), by decide +kernel, by decide +kernel, by decide⟩
abbrev mX10_way : tv_M := (cX10_way, 5, RX10, (Option.some FieldType.int), false)
theorem tX10_way : tv_mt yX10_way mX10_way 2 := ⟨q1048, q103, rfl, (fun h => nomatch h), by decide +kernel, by decide +kernel, by decide⟩
abbrev mX10_shown : tv_M := (cX10_shown, 3, RX10, (Option.some FieldType.int), false)
theorem tX10_shown : tv_mt yX10_shown mX10_shown 2 := ⟨q1056, q103, rfl, (fun h => nomatch h), by decide +kernel, by decide +kernel, by decide⟩
abbrev mJ13_init : tv_M := (cJ13_init, 1, RJ13, (Option.none : Option FieldType), true)
