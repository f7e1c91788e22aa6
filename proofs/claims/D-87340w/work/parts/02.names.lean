set_option maxRecDepth 100000
/-! TileOffice -/
def RX0 : String := "TileOffice"
def TX0 : u_T := fun k => match k with
  | 0 => ("TileOffice", "kinds", "Ljava/util/ArrayList;", true)
  | 1 => ("TileOffice", "patterns", "Ljava/util/ArrayList;", true)
  | 2 => ("TileOffice", "rules", "Ljava/util/ArrayList;", true)
  | 3 => ("TileOffice", "floors", "Ljava/util/ArrayList;", true)
  | 4 => ("TileOffice", "changes", "[LTileOffice$Change;", true)
  | 5 => ("TileOffice", "changeMany", "I", false)
  | 6 => ("TileOffice", "rowsMade", "I", false)
  | 7 => ("TileOffice", "made", "I", false)
  | 8 => ("TileOffice", "region", "LTileOffice$Block;", false)
  | 9 => ("TileOffice", "lying", "[[Z", true)
  | 10 => ("TileOffice", "next", "[[Z", true)
  | 11 => ("TileOffice", "matrix", "[[J", true)
  | 12 => ("TileOffice", "leads", "[[Z", true)
  | 13 => ("TileOffice", "many", "[J", true)
  | _ => ("TileOffice", "then", "[J", true)
def tyX0 : Nat → FieldType := fun k => match k with
  | 0 => .object "java/util/ArrayList"
  | 1 => .object "java/util/ArrayList"
  | 2 => .object "java/util/ArrayList"
  | 3 => .object "java/util/ArrayList"
  | 4 => .array (.object "TileOffice$Change")
  | 5 => .int
  | 6 => .int
  | 7 => .int
  | 8 => .object "TileOffice$Block"
  | 9 => .array (.array .boolean)
  | 10 => .array (.array .boolean)
  | 11 => .array (.array .long)
  | 12 => .array (.array .boolean)
  | 13 => .array .long
  | _ => .array .long
abbrev wsX00 : List Cond := u_ws RX0 TX0 15
theorem nmX0 : ∀ a, a < 15 → ∀ b, b < 15 → a ≠ b → (TX0 a).2.1 ≠ (TX0 b).2.1 := by decide +kernel
theorem tyX0_ok : ∀ k, k < 15 → parseFieldDescriptor (TX0 k).2.2.1 = some (tyX0 k) := by decide +kernel
abbrev cX0_init : ByteArray := prog_1_method_1_code
def yX0_init : MethodName := ⟨RX0, "<init>", "()V"⟩
abbrev cX0_named : ByteArray := prog_1_method_8_code
def yX0_named : MethodName := ⟨RX0, "named", "(J)I"⟩
abbrev cX0_letters : ByteArray := prog_1_method_7_code
def yX0_letters : MethodName := ⟨RX0, "letters", "(J)J"⟩
abbrev cX0_kind : ByteArray := prog_1_method_9_code
def yX0_kind : MethodName := ⟨RX0, "kind", "(IIZIJ)I"⟩
abbrev cX0_edge : ByteArray := prog_1_method_10_code
def yX0_edge : MethodName := ⟨RX0, "edge", "(III)I"⟩
abbrev cX0_isKind : ByteArray := prog_1_method_3_code
def yX0_isKind : MethodName := ⟨RX0, "isKind", "(I)Z"⟩
abbrev cX0_isMove : ByteArray := prog_1_method_2_code
def yX0_isMove : MethodName := ⟨RX0, "isMove", "(I)Z"⟩
abbrev cX0_then : ByteArray := prog_1_method_11_code
def yX0_then : MethodName := ⟨RX0, "then", "(II)I"⟩
abbrev cX0_pattern : ByteArray := prog_1_method_12_code
def yX0_pattern : MethodName := ⟨RX0, "pattern", "()I"⟩
abbrev cX0_insert : ByteArray := prog_1_method_16_code
def yX0_insert : MethodName := ⟨RX0, "insert", "(IIII)Z"⟩
abbrev cX0_pattern_2 : ByteArray := prog_1_method_4_code
def yX0_pattern_2 : MethodName := ⟨RX0, "pattern", "(I)LTileOffice$Pattern;"⟩
abbrev cX0_canMake : ByteArray := prog_1_method_14_code
def yX0_canMake : MethodName := ⟨RX0, "canMake", "(I)Z"⟩
abbrev cX0_keep : ByteArray := prog_1_method_13_code
def yX0_keep : MethodName := ⟨RX0, "keep", "(LTileOffice$Pattern;)V"⟩
abbrev cX0_remove : ByteArray := prog_1_method_17_code
def yX0_remove : MethodName := ⟨RX0, "remove", "(II)Z"⟩
abbrev cX0_move : ByteArray := prog_1_method_18_code
def yX0_move : MethodName := ⟨RX0, "move", "(III)Z"⟩
abbrev cX0_put : ByteArray := prog_1_method_19_code
def yX0_put : MethodName := ⟨RX0, "put", "(IIIII)Z"⟩
abbrev cX0_own : ByteArray := prog_1_method_15_code
def yX0_own : MethodName := ⟨RX0, "own", "(LTileOffice$Pattern;I)LTileOffice$Row;"⟩
abbrev cX0_shade : ByteArray := prog_1_method_20_code
def yX0_shade : MethodName := ⟨RX0, "shade", "(IIII)Z"⟩
abbrev cX0_at : ByteArray := prog_1_method_21_code
def yX0_at : MethodName := ⟨RX0, "at", "(IIII)I"⟩
abbrev cX0_row : ByteArray := prog_1_method_22_code
def yX0_row : MethodName := ⟨RX0, "row", "(III)I"⟩
abbrev cX0_shares : ByteArray := prog_1_method_23_code
def yX0_shares : MethodName := ⟨RX0, "shares", "(IIII)Z"⟩
abbrev cX0_copy : ByteArray := prog_1_method_24_code
def yX0_copy : MethodName := ⟨RX0, "copy", "(I)I"⟩
abbrev cX0_region : ByteArray := prog_1_method_25_code
def yX0_region : MethodName := ⟨RX0, "region", "(IIIII)I"⟩
abbrev cX0_turn : ByteArray := prog_1_method_26_code
def yX0_turn : MethodName := ⟨RX0, "turn", "(I)Z"⟩
abbrev cX0_paste : ByteArray := prog_1_method_27_code
def yX0_paste : MethodName := ⟨RX0, "paste", "(III)I"⟩
abbrev cX0_rule : ByteArray := prog_1_method_28_code
def yX0_rule : MethodName := ⟨RX0, "rule", "(II)I"⟩
abbrev cX0_becomes : ByteArray := prog_1_method_29_code
def yX0_becomes : MethodName := ⟨RX0, "becomes", "(IIIIII)Z"⟩
abbrev cX0_rule_2 : ByteArray := prog_1_method_5_code
def yX0_rule_2 : MethodName := ⟨RX0, "rule", "(I)LTileOffice$Rule;"⟩
abbrev cX0_grow : ByteArray := prog_1_method_35_code
def yX0_grow : MethodName := ⟨RX0, "grow", "(III)I"⟩
abbrev cX0_canGrow : ByteArray := prog_1_method_30_code
def yX0_canGrow : MethodName := ⟨RX0, "canGrow", "(LTileOffice$Pattern;LTileOffice$Rule;I)Z"⟩
abbrev cX0_isTurned : ByteArray := prog_1_method_31_code
def yX0_isTurned : MethodName := ⟨RX0, "isTurned", "(LTileOffice$Pattern;LTileOffice$Rule;I)Z"⟩
abbrev cX0_step : ByteArray := prog_1_method_32_code
def yX0_step : MethodName := ⟨RX0, "step", "(LTileOffice$Rule;)V"⟩
abbrev cX0_grown : ByteArray := prog_1_method_33_code
def yX0_grown : MethodName := ⟨RX0, "grown", "(Ljava/util/ArrayList;LTileOffice$Rule;)Ljava/util/ArrayList;"⟩
abbrev cX0_lay : ByteArray := prog_1_method_34_code
def yX0_lay : MethodName := ⟨RX0, "lay", "(LTileOffice$Row;ILTileOffice$Rule;LTileOffice$Row;II)V"⟩
abbrev cX0_foretold : ByteArray := prog_1_method_39_code
def yX0_foretold : MethodName := ⟨RX0, "foretold", "(IIII)J"⟩
abbrev cX0_fillMatrix : ByteArray := prog_1_method_36_code
def yX0_fillMatrix : MethodName := ⟨RX0, "fillMatrix", "(LTileOffice$Rule;)V"⟩
abbrev cX0_fillLeads : ByteArray := prog_1_method_37_code
def yX0_fillLeads : MethodName := ⟨RX0, "fillLeads", "(II)V"⟩
abbrev cX0_multiply : ByteArray := prog_1_method_38_code
def yX0_multiply : MethodName := ⟨RX0, "multiply", "(I)V"⟩
abbrev cX0_count : ByteArray := prog_1_method_40_code
def yX0_count : MethodName := ⟨RX0, "count", "(II)I"⟩
abbrev cX0_fits : ByteArray := prog_1_method_42_code
def yX0_fits : MethodName := ⟨RX0, "fits", "(I)I"⟩
abbrev cX0_fit : ByteArray := prog_1_method_41_code
def yX0_fit : MethodName := ⟨RX0, "fit", "(LTileOffice$Row;ILTileOffice$Row;II)Z"⟩
abbrev cX0_period : ByteArray := prog_1_method_45_code
def yX0_period : MethodName := ⟨RX0, "period", "(II)I"⟩
abbrev cX0_repeats : ByteArray := prog_1_method_44_code
def yX0_repeats : MethodName := ⟨RX0, "repeats", "(LTileOffice$Pattern;II)Z"⟩
abbrev cX0_isAlike : ByteArray := prog_1_method_43_code
def yX0_isAlike : MethodName := ⟨RX0, "isAlike", "(LTileOffice$Row;ILTileOffice$Row;I)Z"⟩
abbrev cX0_kept : ByteArray := prog_1_method_50_code
def yX0_kept : MethodName := ⟨RX0, "kept", "(I)I"⟩
abbrev cX0_isMoved : ByteArray := prog_1_method_49_code
def yX0_isMoved : MethodName := ⟨RX0, "isMoved", "(LTileOffice$Pattern;ILTileOffice$Pattern;)Z"⟩
abbrev cX0_high : ByteArray := prog_1_method_47_code
def yX0_high : MethodName := ⟨RX0, "high", "(LTileOffice$Pattern;I)I"⟩
abbrev cX0_wide : ByteArray := prog_1_method_48_code
def yX0_wide : MethodName := ⟨RX0, "wide", "(LTileOffice$Pattern;I)I"⟩
abbrev cX0_isMoved_2 : ByteArray := prog_1_method_46_code
def yX0_isMoved_2 : MethodName := ⟨RX0, "isMoved", "(LTileOffice$Pattern;IIILTileOffice$Row;I)Z"⟩
abbrev cX0_congruent : ByteArray := prog_1_method_51_code
def yX0_congruent : MethodName := ⟨RX0, "congruent", "(II)I"⟩
abbrev cX0_find : ByteArray := prog_1_method_53_code
def yX0_find : MethodName := ⟨RX0, "find", "(III)I"⟩
abbrev cX0_lies : ByteArray := prog_1_method_52_code
def yX0_lies : MethodName := ⟨RX0, "lies", "(LTileOffice$Pattern;IILTileOffice$Pattern;I)Z"⟩
abbrev cX0_floor : ByteArray := prog_1_method_54_code
def yX0_floor : MethodName := ⟨RX0, "floor", "(II)I"⟩
abbrev cX0_place : ByteArray := prog_1_method_55_code
def yX0_place : MethodName := ⟨RX0, "place", "(IIIII)Z"⟩
abbrev cX0_floor_2 : ByteArray := prog_1_method_6_code
def yX0_floor_2 : MethodName := ⟨RX0, "floor", "(I)LTileOffice$Floor;"⟩
abbrev cX0_stock : ByteArray := prog_1_method_56_code
def yX0_stock : MethodName := ⟨RX0, "stock", "(III)Z"⟩
abbrev cX0_fill : ByteArray := prog_1_method_57_code
def yX0_fill : MethodName := ⟨RX0, "fill", "(I)I"⟩
abbrev cX0_fills : ByteArray := prog_1_method_58_code
def yX0_fills : MethodName := ⟨RX0, "fills", "(II)I"⟩
abbrev cX0_cheapest : ByteArray := prog_1_method_59_code
def yX0_cheapest : MethodName := ⟨RX0, "cheapest", "(I)I"⟩
abbrev cX0_forced : ByteArray := prog_1_method_60_code
def yX0_forced : MethodName := ⟨RX0, "forced", "(I)I"⟩
abbrev cX0_shown : ByteArray := prog_1_method_61_code
def yX0_shown : MethodName := ⟨RX0, "shown", "(III)I"⟩
abbrev cX0_undo : ByteArray := prog_1_method_62_code
def yX0_undo : MethodName := ⟨RX0, "undo", "()I"⟩
abbrev cX0_about : ByteArray := prog_1_method_63_code
def yX0_about : MethodName := ⟨RX0, "about", "(I)I"⟩
theorem q79 : (Jvm.Cond.initialized "TileOffice") ∈ lw_all := lw_g (lw_at lw_m1 1 rfl) rfl
theorem q105 : (Jvm.Cond.instantiable "TileOffice" (15 : Nat)) ∈ lw_all := lw_g (lw_at lw_m1 27 rfl) rfl
theorem q107 : (Jvm.Cond.instanceMethod ({ cls := "TileOffice", name := "<init>", desc := "()V" } : Jvm.MethodName)) ∈ lw_all := lw_g (lw_at lw_m1 29 rfl) rfl
theorem q108 : (Jvm.Cond.code ({ cls := "TileOffice", name := "<init>", desc := "()V" } : Jvm.MethodName) prog_1_method_1_code (1 : Nat) (Option.none : Option Jvm.ClassFile.FieldType)) ∈ lw_all := lw_g (lw_at lw_m1 30 rfl) rfl
theorem q109 : (Jvm.Cond.methodLink "TileOffice" (1 : Nat) ({ cls := "java/lang/Object", name := "<init>", desc := "()V" } : Jvm.MethodName)) ∈ lw_all := lw_g (lw_at lw_m1 31 rfl) rfl
theorem q112 : (Jvm.Cond.classLink "TileOffice" (7 : Nat) "java/util/ArrayList") ∈ lw_all := lw_g (lw_at lw_m1 34 rfl) rfl
theorem q114 : (Jvm.Cond.methodLink "TileOffice" (9 : Nat) ({ cls := "java/util/ArrayList", name := "<init>", desc := "()V" } : Jvm.MethodName)) ∈ lw_all := lw_g (lw_at lw_m1 36 rfl) rfl
theorem q138 : (Jvm.Cond.classLink "TileOffice" (25 : Nat) "TileOffice$Change") ∈ lw_all := lw_g (lw_at lw_m1 60 rfl) rfl
theorem q140 : (Jvm.Cond.classLink "TileOffice" (31 : Nat) "[[Z") ∈ lw_all := lw_g (lw_at lw_m1 62 rfl) rfl
theorem q142 : (Jvm.Cond.classLink "TileOffice" (39 : Nat) "[[J") ∈ lw_all := lw_g (lw_at lw_m1 64 rfl) rfl
theorem q144 : (Jvm.Cond.fieldLink "TileOffice" (10 : Nat) "TileOffice" "kinds" "Ljava/util/ArrayList;") ∈ lw_all := lw_g (lw_at lw_m1 66 rfl) rfl
theorem q147 : (Jvm.Cond.fieldLink "TileOffice" (16 : Nat) "TileOffice" "patterns" "Ljava/util/ArrayList;") ∈ lw_all := lw_g (lw_at lw_m1 69 rfl) rfl
theorem q148 : (Jvm.Cond.fieldLink "TileOffice" (19 : Nat) "TileOffice" "rules" "Ljava/util/ArrayList;") ∈ lw_all := lw_g (lw_at lw_m1 70 rfl) rfl
theorem q149 : (Jvm.Cond.fieldLink "TileOffice" (22 : Nat) "TileOffice" "floors" "Ljava/util/ArrayList;") ∈ lw_all := lw_g (lw_at lw_m1 71 rfl) rfl
theorem q150 : (Jvm.Cond.fieldLink "TileOffice" (27 : Nat) "TileOffice" "changes" "[LTileOffice$Change;") ∈ lw_all := lw_g (lw_at lw_m1 72 rfl) rfl
theorem q151 : (Jvm.Cond.fieldLink "TileOffice" (122 : Nat) "TileOffice" "changeMany" "I") ∈ lw_all := lw_g (lw_at lw_m1 73 rfl) rfl
theorem q152 : (Jvm.Cond.fieldLink "TileOffice" (135 : Nat) "TileOffice" "rowsMade" "I") ∈ lw_all := lw_g (lw_at lw_m1 74 rfl) rfl
theorem q154 : (Jvm.Cond.fieldLink "TileOffice" (367 : Nat) "TileOffice" "made" "I") ∈ lw_all := lw_g (lw_at lw_m1 76 rfl) rfl
theorem q155 : (Jvm.Cond.fieldLink "TileOffice" (203 : Nat) "TileOffice" "region" "LTileOffice$Block;") ∈ lw_all := lw_g (lw_at lw_m1 77 rfl) rfl
theorem q156 : (Jvm.Cond.fieldLink "TileOffice" (33 : Nat) "TileOffice" "lying" "[[Z") ∈ lw_all := lw_g (lw_at lw_m1 78 rfl) rfl
theorem q157 : (Jvm.Cond.fieldLink "TileOffice" (36 : Nat) "TileOffice" "next" "[[Z") ∈ lw_all := lw_g (lw_at lw_m1 79 rfl) rfl
theorem q158 : (Jvm.Cond.fieldLink "TileOffice" (41 : Nat) "TileOffice" "matrix" "[[J") ∈ lw_all := lw_g (lw_at lw_m1 80 rfl) rfl
theorem q159 : (Jvm.Cond.fieldLink "TileOffice" (44 : Nat) "TileOffice" "leads" "[[Z") ∈ lw_all := lw_g (lw_at lw_m1 81 rfl) rfl
theorem q160 : (Jvm.Cond.fieldLink "TileOffice" (47 : Nat) "TileOffice" "many" "[J") ∈ lw_all := lw_g (lw_at lw_m1 82 rfl) rfl
theorem q161 : (Jvm.Cond.fieldLink "TileOffice" (51 : Nat) "TileOffice" "then" "[J") ∈ lw_all := lw_g (lw_at lw_m1 83 rfl) rfl
theorem q162 : (Jvm.Cond.laysFinal "TileOffice" "TileOffice" "kinds" "Ljava/util/ArrayList;") ∈ lw_all := lw_g (lw_at lw_m1 84 rfl) rfl
theorem q163 : (Jvm.Cond.soleField "TileOffice" "kinds") ∈ lw_all := lw_g (lw_at lw_m1 85 rfl) rfl
theorem q164 : (Jvm.Cond.laysFinal "TileOffice" "TileOffice" "patterns" "Ljava/util/ArrayList;") ∈ lw_all := lw_g (lw_at lw_m1 86 rfl) rfl
theorem q165 : (Jvm.Cond.soleField "TileOffice" "patterns") ∈ lw_all := lw_g (lw_at lw_m1 87 rfl) rfl
theorem q166 : (Jvm.Cond.laysFinal "TileOffice" "TileOffice" "rules" "Ljava/util/ArrayList;") ∈ lw_all := lw_g (lw_at lw_m1 88 rfl) rfl
theorem q167 : (Jvm.Cond.soleField "TileOffice" "rules") ∈ lw_all := lw_g (lw_at lw_m1 89 rfl) rfl
theorem q168 : (Jvm.Cond.laysFinal "TileOffice" "TileOffice" "floors" "Ljava/util/ArrayList;") ∈ lw_all := lw_g (lw_at lw_m1 90 rfl) rfl
theorem q169 : (Jvm.Cond.soleField "TileOffice" "floors") ∈ lw_all := lw_g (lw_at lw_m1 91 rfl) rfl
theorem q170 : (Jvm.Cond.laysFinal "TileOffice" "TileOffice" "changes" "[LTileOffice$Change;") ∈ lw_all := lw_g (lw_at lw_m1 92 rfl) rfl
theorem q171 : (Jvm.Cond.soleField "TileOffice" "changes") ∈ lw_all := lw_g (lw_at lw_m1 93 rfl) rfl
theorem q172 : (Jvm.Cond.lays "TileOffice" "TileOffice" "changeMany" "I") ∈ lw_all := lw_g (lw_at lw_m1 94 rfl) rfl
theorem q173 : (Jvm.Cond.soleField "TileOffice" "changeMany") ∈ lw_all := lw_g (lw_at lw_m1 95 rfl) rfl
theorem q174 : (Jvm.Cond.lays "TileOffice" "TileOffice" "rowsMade" "I") ∈ lw_all := lw_g (lw_at lw_m1 96 rfl) rfl
theorem q175 : (Jvm.Cond.soleField "TileOffice" "rowsMade") ∈ lw_all := lw_g (lw_at lw_m1 97 rfl) rfl
theorem q176 : (Jvm.Cond.lays "TileOffice" "TileOffice" "made" "I") ∈ lw_all := lw_g (lw_at lw_m1 98 rfl) rfl
theorem q177 : (Jvm.Cond.soleField "TileOffice" "made") ∈ lw_all := lw_g (lw_at lw_m1 99 rfl) rfl
theorem q178 : (Jvm.Cond.lays "TileOffice" "TileOffice" "region" "LTileOffice$Block;") ∈ lw_all := lw_g (lw_at lw_m1 100 rfl) rfl
theorem q179 : (Jvm.Cond.soleField "TileOffice" "region") ∈ lw_all := lw_g (lw_at lw_m1 101 rfl) rfl
theorem q180 : (Jvm.Cond.laysFinal "TileOffice" "TileOffice" "lying" "[[Z") ∈ lw_all := lw_g (lw_at lw_m1 102 rfl) rfl
theorem q181 : (Jvm.Cond.soleField "TileOffice" "lying") ∈ lw_all := lw_g (lw_at lw_m1 103 rfl) rfl
theorem q182 : (Jvm.Cond.laysFinal "TileOffice" "TileOffice" "next" "[[Z") ∈ lw_all := lw_g (lw_at lw_m1 104 rfl) rfl
theorem q183 : (Jvm.Cond.soleField "TileOffice" "next") ∈ lw_all := lw_g (lw_at lw_m1 105 rfl) rfl
theorem q184 : (Jvm.Cond.laysFinal "TileOffice" "TileOffice" "matrix" "[[J") ∈ lw_all := lw_g (lw_at lw_m1 106 rfl) rfl
theorem q185 : (Jvm.Cond.soleField "TileOffice" "matrix") ∈ lw_all := lw_g (lw_at lw_m1 107 rfl) rfl
theorem q186 : (Jvm.Cond.laysFinal "TileOffice" "TileOffice" "leads" "[[Z") ∈ lw_all := lw_g (lw_at lw_m1 108 rfl) rfl
theorem q187 : (Jvm.Cond.soleField "TileOffice" "leads") ∈ lw_all := lw_g (lw_at lw_m1 109 rfl) rfl
theorem q188 : (Jvm.Cond.laysFinal "TileOffice" "TileOffice" "many" "[J") ∈ lw_all := lw_g (lw_at lw_m1 110 rfl) rfl
theorem q189 : (Jvm.Cond.soleField "TileOffice" "many") ∈ lw_all := lw_g (lw_at lw_m1 111 rfl) rfl
theorem q190 : (Jvm.Cond.laysFinal "TileOffice" "TileOffice" "then" "[J") ∈ lw_all := lw_g (lw_at lw_m1 112 rfl) rfl
theorem q191 : (Jvm.Cond.soleField "TileOffice" "then") ∈ lw_all := lw_g (lw_at lw_m1 113 rfl) rfl
theorem q192 : (Jvm.Cond.superclass "TileOffice" "java/lang/Object") ∈ lw_all := lw_g (lw_at lw_m1 114 rfl) rfl
theorem q196 : (Jvm.Cond.instanceMethod ({ cls := "TileOffice", name := "named", desc := "(J)I" } : Jvm.MethodName)) ∈ lw_all := lw_g (lw_at lw_m1 118 rfl) rfl
theorem q197 : (Jvm.Cond.selects "TileOffice" ({ cls := "TileOffice", name := "named", desc := "(J)I" } : Jvm.MethodName) ({ cls := "TileOffice", name := "named", desc := "(J)I" } : Jvm.MethodName)) ∈ lw_all := lw_g (lw_at lw_m1 119 rfl) rfl
theorem q198 : (Jvm.Cond.code ({ cls := "TileOffice", name := "named", desc := "(J)I" } : Jvm.MethodName) prog_1_method_8_code (6 : Nat) (Option.some Jvm.ClassFile.FieldType.int)) ∈ lw_all := lw_g (lw_at lw_m1 120 rfl) rfl
theorem q199 : (Jvm.Cond.methodLink "TileOffice" (76 : Nat) ({ cls := "TileOffice", name := "letters", desc := "(J)J" } : Jvm.MethodName)) ∈ lw_all := lw_g (lw_at lw_m1 121 rfl) rfl
theorem q200 : (Jvm.Cond.static ({ cls := "TileOffice", name := "letters", desc := "(J)J" } : Jvm.MethodName)) ∈ lw_all := lw_g (lw_at lw_m1 122 rfl) rfl
theorem q201 : (Jvm.Cond.code ({ cls := "TileOffice", name := "letters", desc := "(J)J" } : Jvm.MethodName) prog_1_method_7_code (7 : Nat) (Option.some Jvm.ClassFile.FieldType.long)) ∈ lw_all := lw_g (lw_at lw_m1 123 rfl) rfl
theorem q202 : (Jvm.Cond.constantLong "TileOffice" (68 : Nat) (255 : Int64)) ∈ lw_all := lw_g (lw_at lw_m1 124 rfl) rfl
theorem q203 : (Jvm.Cond.constantLong "TileOffice" (70 : Nat) (97 : Int64)) ∈ lw_all := lw_g (lw_at lw_m1 125 rfl) rfl
theorem q204 : (Jvm.Cond.constantLong "TileOffice" (72 : Nat) (122 : Int64)) ∈ lw_all := lw_g (lw_at lw_m1 126 rfl) rfl
theorem q205 : (Jvm.Cond.constantLong "TileOffice" (74 : Nat) (-1 : Int64)) ∈ lw_all := lw_g (lw_at lw_m1 127 rfl) rfl
theorem q206 : (Jvm.Cond.methodLink "TileOffice" (54 : Nat) ({ cls := "java/util/ArrayList", name := "size", desc := "()I" } : Jvm.MethodName)) ∈ lw_all := lw_g (lw_at lw_m1 128 rfl) rfl
theorem q210 : (Jvm.Cond.methodLink "TileOffice" (58 : Nat) ({ cls := "java/util/ArrayList", name := "get", desc := "(I)Ljava/lang/Object;" } : Jvm.MethodName)) ∈ lw_all := lw_g (lw_at lw_m1 132 rfl) rfl
theorem q224 : (Jvm.Cond.classLink "TileOffice" (80 : Nat) "TileOffice$Tile") ∈ lw_all := lw_g (lw_at lw_m1 146 rfl) rfl
theorem q226 : (Jvm.Cond.instanceMethod ({ cls := "TileOffice", name := "kind", desc := "(IIZIJ)I" } : Jvm.MethodName)) ∈ lw_all := lw_g (lw_at lw_m1 148 rfl) rfl
theorem q227 : (Jvm.Cond.selects "TileOffice" ({ cls := "TileOffice", name := "kind", desc := "(IIZIJ)I" } : Jvm.MethodName) ({ cls := "TileOffice", name := "kind", desc := "(IIZIJ)I" } : Jvm.MethodName)) ∈ lw_all := lw_g (lw_at lw_m1 149 rfl) rfl
theorem q228 : (Jvm.Cond.code ({ cls := "TileOffice", name := "kind", desc := "(IIZIJ)I" } : Jvm.MethodName) prog_1_method_9_code (11 : Nat) (Option.some Jvm.ClassFile.FieldType.int)) ∈ lw_all := lw_g (lw_at lw_m1 150 rfl) rfl
theorem q229 : (Jvm.Cond.constant "TileOffice" (86 : Nat) (65535 : Int32)) ∈ lw_all := lw_g (lw_at lw_m1 151 rfl) rfl
theorem q230 : (Jvm.Cond.methodLink "TileOffice" (87 : Nat) ({ cls := "TileOffice", name := "named", desc := "(J)I" } : Jvm.MethodName)) ∈ lw_all := lw_g (lw_at lw_m1 152 rfl) rfl
theorem q232 : (Jvm.Cond.methodLink "TileOffice" (91 : Nat) ({ cls := "TileOffice$Tile", name := "<init>", desc := "(IIZIJ)V" } : Jvm.MethodName)) ∈ lw_all := lw_g (lw_at lw_m1 154 rfl) rfl
theorem q237 : (Jvm.Cond.fieldLink "TileOffice" (94 : Nat) "TileOffice$Tile" "colours" "[I") ∈ lw_all := lw_g (lw_at lw_m1 159 rfl) rfl
theorem q243 : (Jvm.Cond.fieldLink "TileOffice" (82 : Nat) "TileOffice$Tile" "name" "J") ∈ lw_all := lw_g (lw_at lw_m1 165 rfl) rfl
theorem q256 : (Jvm.Cond.methodLink "TileOffice" (98 : Nat) ({ cls := "java/util/ArrayList", name := "add", desc := "(Ljava/lang/Object;)Z" } : Jvm.MethodName)) ∈ lw_all := lw_g (lw_at lw_m1 178 rfl) rfl
theorem q288 : (Jvm.Cond.selects "TileOffice" ({ cls := "java/lang/Object", name := "getClass", desc := "()Ljava/lang/Class;" } : Jvm.MethodName) ({ cls := "java/lang/Object", name := "getClass", desc := "()Ljava/lang/Class;" } : Jvm.MethodName)) ∈ lw_all := lw_g (lw_at lw_m1 210 rfl) rfl
theorem q316 : (Jvm.Cond.instanceMethod ({ cls := "TileOffice", name := "edge", desc := "(III)I" } : Jvm.MethodName)) ∈ lw_all := lw_g (lw_at lw_m1 238 rfl) rfl
theorem q317 : (Jvm.Cond.selects "TileOffice" ({ cls := "TileOffice", name := "edge", desc := "(III)I" } : Jvm.MethodName) ({ cls := "TileOffice", name := "edge", desc := "(III)I" } : Jvm.MethodName)) ∈ lw_all := lw_g (lw_at lw_m1 239 rfl) rfl
theorem q318 : (Jvm.Cond.code ({ cls := "TileOffice", name := "edge", desc := "(III)I" } : Jvm.MethodName) prog_1_method_10_code (6 : Nat) (Option.some Jvm.ClassFile.FieldType.int)) ∈ lw_all := lw_g (lw_at lw_m2 0 rfl) rfl
theorem q319 : (Jvm.Cond.methodLink "TileOffice" (102 : Nat) ({ cls := "TileOffice", name := "isKind", desc := "(I)Z" } : Jvm.MethodName)) ∈ lw_all := lw_g (lw_at lw_m2 1 rfl) rfl
theorem q320 : (Jvm.Cond.privateMethod ({ cls := "TileOffice", name := "isKind", desc := "(I)Z" } : Jvm.MethodName)) ∈ lw_tbl := lw_at lw_m2 2 rfl
theorem q321 : (Jvm.Cond.instanceMethod ({ cls := "TileOffice", name := "isKind", desc := "(I)Z" } : Jvm.MethodName)) ∈ lw_all := lw_g (lw_at lw_m2 3 rfl) rfl
theorem q322 : (Jvm.Cond.code ({ cls := "TileOffice", name := "isKind", desc := "(I)Z" } : Jvm.MethodName) prog_1_method_3_code (2 : Nat) (Option.some Jvm.ClassFile.FieldType.boolean)) ∈ lw_all := lw_g (lw_at lw_m2 4 rfl) rfl
theorem q323 : (Jvm.Cond.methodLink "TileOffice" (106 : Nat) ({ cls := "TileOffice", name := "isMove", desc := "(I)Z" } : Jvm.MethodName)) ∈ lw_all := lw_g (lw_at lw_m2 5 rfl) rfl
theorem q324 : (Jvm.Cond.static ({ cls := "TileOffice", name := "isMove", desc := "(I)Z" } : Jvm.MethodName)) ∈ lw_all := lw_g (lw_at lw_m2 6 rfl) rfl
theorem q325 : (Jvm.Cond.code ({ cls := "TileOffice", name := "isMove", desc := "(I)Z" } : Jvm.MethodName) prog_1_method_2_code (1 : Nat) (Option.some Jvm.ClassFile.FieldType.boolean)) ∈ lw_all := lw_g (lw_at lw_m2 7 rfl) rfl
theorem q326 : (Jvm.Cond.methodLink "TileOffice" (109 : Nat) ({ cls := "TileOffice$Tile", name := "lies", desc := "(I)I" } : Jvm.MethodName)) ∈ lw_all := lw_g (lw_at lw_m2 8 rfl) rfl
theorem q333 : (Jvm.Cond.methodLink "TileOffice" (113 : Nat) ({ cls := "TileOffice$Tile", name := "colour", desc := "(II)I" } : Jvm.MethodName)) ∈ lw_all := lw_g (lw_at lw_m2 15 rfl) rfl
theorem q345 : (Jvm.Cond.instanceMethod ({ cls := "TileOffice", name := "then", desc := "(II)I" } : Jvm.MethodName)) ∈ lw_all := lw_g (lw_at lw_m2 27 rfl) rfl
theorem q346 : (Jvm.Cond.selects "TileOffice" ({ cls := "TileOffice", name := "then", desc := "(II)I" } : Jvm.MethodName) ({ cls := "TileOffice", name := "then", desc := "(II)I" } : Jvm.MethodName)) ∈ lw_all := lw_g (lw_at lw_m2 28 rfl) rfl
theorem q347 : (Jvm.Cond.code ({ cls := "TileOffice", name := "then", desc := "(II)I" } : Jvm.MethodName) prog_1_method_11_code (3 : Nat) (Option.some Jvm.ClassFile.FieldType.int)) ∈ lw_all := lw_g (lw_at lw_m2 29 rfl) rfl
theorem q348 : (Jvm.Cond.methodLink "TileOffice" (117 : Nat) ({ cls := "TileOffice$Moves", name := "then", desc := "(II)I" } : Jvm.MethodName)) ∈ lw_all := lw_g (lw_at lw_m2 30 rfl) rfl
theorem q352 : (Jvm.Cond.instanceMethod ({ cls := "TileOffice", name := "pattern", desc := "()I" } : Jvm.MethodName)) ∈ lw_all := lw_g (lw_at lw_m2 34 rfl) rfl
theorem q353 : (Jvm.Cond.selects "TileOffice" ({ cls := "TileOffice", name := "pattern", desc := "()I" } : Jvm.MethodName) ({ cls := "TileOffice", name := "pattern", desc := "()I" } : Jvm.MethodName)) ∈ lw_all := lw_g (lw_at lw_m2 35 rfl) rfl
theorem q354 : (Jvm.Cond.code ({ cls := "TileOffice", name := "pattern", desc := "()I" } : Jvm.MethodName) prog_1_method_12_code (1 : Nat) (Option.some Jvm.ClassFile.FieldType.int)) ∈ lw_all := lw_g (lw_at lw_m2 36 rfl) rfl
theorem q355 : (Jvm.Cond.classLink "TileOffice" (62 : Nat) "TileOffice$Pattern") ∈ lw_all := lw_g (lw_at lw_m2 37 rfl) rfl
theorem q357 : (Jvm.Cond.methodLinkNest "TileOffice" (121 : Nat) ({ cls := "TileOffice$Pattern", name := "<init>", desc := "()V" } : Jvm.MethodName) "TileOffice") ∈ lw_tbl := lw_at lw_m2 39 rfl
theorem q365 : (Jvm.Cond.fieldLink "TileOffice" (140 : Nat) "TileOffice$Pattern" "rows" "Ljava/util/ArrayList;") ∈ lw_all := lw_g (lw_at lw_m2 47 rfl) rfl
theorem q370 : (Jvm.Cond.instanceMethod ({ cls := "TileOffice", name := "insert", desc := "(IIII)Z" } : Jvm.MethodName)) ∈ lw_all := lw_g (lw_at lw_m2 52 rfl) rfl
theorem q371 : (Jvm.Cond.selects "TileOffice" ({ cls := "TileOffice", name := "insert", desc := "(IIII)Z" } : Jvm.MethodName) ({ cls := "TileOffice", name := "insert", desc := "(IIII)Z" } : Jvm.MethodName)) ∈ lw_all := lw_g (lw_at lw_m2 53 rfl) rfl
theorem q372 : (Jvm.Cond.code ({ cls := "TileOffice", name := "insert", desc := "(IIII)Z" } : Jvm.MethodName) prog_1_method_16_code (6 : Nat) (Option.some Jvm.ClassFile.FieldType.boolean)) ∈ lw_all := lw_g (lw_at lw_m2 54 rfl) rfl
theorem q373 : (Jvm.Cond.methodLink "TileOffice" (150 : Nat) ({ cls := "TileOffice", name := "pattern", desc := "(I)LTileOffice$Pattern;" } : Jvm.MethodName)) ∈ lw_all := lw_g (lw_at lw_m2 55 rfl) rfl
theorem q374 : (Jvm.Cond.privateMethod ({ cls := "TileOffice", name := "pattern", desc := "(I)LTileOffice$Pattern;" } : Jvm.MethodName)) ∈ lw_tbl := lw_at lw_m2 56 rfl
theorem q375 : (Jvm.Cond.instanceMethod ({ cls := "TileOffice", name := "pattern", desc := "(I)LTileOffice$Pattern;" } : Jvm.MethodName)) ∈ lw_all := lw_g (lw_at lw_m2 57 rfl) rfl
theorem q376 : (Jvm.Cond.code ({ cls := "TileOffice", name := "pattern", desc := "(I)LTileOffice$Pattern;" } : Jvm.MethodName) prog_1_method_4_code (2 : Nat) (Option.some (Jvm.ClassFile.FieldType.object "TileOffice$Pattern"))) ∈ lw_all := lw_g (lw_at lw_m2 58 rfl) rfl
theorem q377 : (Jvm.Cond.methodLink "TileOffice" (154 : Nat) ({ cls := "TileOffice", name := "canMake", desc := "(I)Z" } : Jvm.MethodName)) ∈ lw_all := lw_g (lw_at lw_m2 59 rfl) rfl
theorem q378 : (Jvm.Cond.privateMethod ({ cls := "TileOffice", name := "canMake", desc := "(I)Z" } : Jvm.MethodName)) ∈ lw_tbl := lw_at lw_m2 60 rfl
theorem q379 : (Jvm.Cond.instanceMethod ({ cls := "TileOffice", name := "canMake", desc := "(I)Z" } : Jvm.MethodName)) ∈ lw_all := lw_g (lw_at lw_m2 61 rfl) rfl
theorem q380 : (Jvm.Cond.code ({ cls := "TileOffice", name := "canMake", desc := "(I)Z" } : Jvm.MethodName) prog_1_method_14_code (2 : Nat) (Option.some Jvm.ClassFile.FieldType.boolean)) ∈ lw_all := lw_g (lw_at lw_m2 62 rfl) rfl
theorem q381 : (Jvm.Cond.methodLink "TileOffice" (157 : Nat) ({ cls := "TileOffice", name := "keep", desc := "(LTileOffice$Pattern;)V" } : Jvm.MethodName)) ∈ lw_all := lw_g (lw_at lw_m2 63 rfl) rfl
theorem q382 : (Jvm.Cond.privateMethod ({ cls := "TileOffice", name := "keep", desc := "(LTileOffice$Pattern;)V" } : Jvm.MethodName)) ∈ lw_tbl := lw_at lw_m2 64 rfl
theorem q383 : (Jvm.Cond.instanceMethod ({ cls := "TileOffice", name := "keep", desc := "(LTileOffice$Pattern;)V" } : Jvm.MethodName)) ∈ lw_all := lw_g (lw_at lw_m2 65 rfl) rfl
theorem q384 : (Jvm.Cond.code ({ cls := "TileOffice", name := "keep", desc := "(LTileOffice$Pattern;)V" } : Jvm.MethodName) prog_1_method_13_code (2 : Nat) (Option.none : Option Jvm.ClassFile.FieldType)) ∈ lw_all := lw_g (lw_at lw_m2 66 rfl) rfl
theorem q385 : (Jvm.Cond.methodLink "TileOffice" (126 : Nat) ({ cls := "java/lang/System", name := "arraycopy", desc := "(Ljava/lang/Object;ILjava/lang/Object;II)V" } : Jvm.MethodName)) ∈ lw_all := lw_g (lw_at lw_m2 67 rfl) rfl
theorem q387 : (Jvm.Cond.methodLink "TileOffice" (132 : Nat) ({ cls := "TileOffice$Change", name := "<init>", desc := "(LTileOffice$Pattern;)V" } : Jvm.MethodName)) ∈ lw_all := lw_g (lw_at lw_m2 69 rfl) rfl
theorem q417 : (Jvm.Cond.fieldLink "TileOffice" (362 : Nat) "TileOffice$Change" "of" "LTileOffice$Pattern;") ∈ lw_all := lw_g (lw_at lw_m2 99 rfl) rfl
theorem q419 : (Jvm.Cond.fieldLink "TileOffice" (366 : Nat) "TileOffice$Change" "rows" "Ljava/util/ArrayList;") ∈ lw_all := lw_g (lw_at lw_m2 101 rfl) rfl
theorem q425 : (Jvm.Cond.classLink "TileOffice" (138 : Nat) "TileOffice$Row") ∈ lw_all := lw_g (lw_at lw_m2 107 rfl) rfl
theorem q427 : (Jvm.Cond.methodLink "TileOffice" (160 : Nat) ({ cls := "TileOffice$Row", name := "<init>", desc := "(II)V" } : Jvm.MethodName)) ∈ lw_all := lw_g (lw_at lw_m2 109 rfl) rfl
theorem q433 : (Jvm.Cond.fieldLink "TileOffice" (187 : Nat) "TileOffice$Row" "kinds" "[B") ∈ lw_all := lw_g (lw_at lw_m2 115 rfl) rfl
theorem q435 : (Jvm.Cond.fieldLink "TileOffice" (194 : Nat) "TileOffice$Row" "moves" "[B") ∈ lw_all := lw_g (lw_at lw_m2 117 rfl) rfl
theorem q437 : (Jvm.Cond.fieldLink "TileOffice" (190 : Nat) "TileOffice$Row" "shades" "[S") ∈ lw_all := lw_g (lw_at lw_m2 119 rfl) rfl
theorem q440 : (Jvm.Cond.fieldLink "TileOffice" (181 : Nat) "TileOffice$Row" "offset" "I") ∈ lw_all := lw_g (lw_at lw_m2 122 rfl) rfl
theorem q452 : (Jvm.Cond.methodLink "TileOffice" (163 : Nat) ({ cls := "java/util/ArrayList", name := "add", desc := "(ILjava/lang/Object;)V" } : Jvm.MethodName)) ∈ lw_all := lw_g (lw_at lw_m2 134 rfl) rfl
theorem q462 : (Jvm.Cond.instanceMethod ({ cls := "TileOffice", name := "remove", desc := "(II)Z" } : Jvm.MethodName)) ∈ lw_all := lw_g (lw_at lw_m2 144 rfl) rfl
theorem q463 : (Jvm.Cond.selects "TileOffice" ({ cls := "TileOffice", name := "remove", desc := "(II)Z" } : Jvm.MethodName) ({ cls := "TileOffice", name := "remove", desc := "(II)Z" } : Jvm.MethodName)) ∈ lw_all := lw_g (lw_at lw_m2 145 rfl) rfl
theorem q464 : (Jvm.Cond.code ({ cls := "TileOffice", name := "remove", desc := "(II)Z" } : Jvm.MethodName) prog_1_method_17_code (4 : Nat) (Option.some Jvm.ClassFile.FieldType.boolean)) ∈ lw_all := lw_g (lw_at lw_m2 146 rfl) rfl
theorem q465 : (Jvm.Cond.methodLink "TileOffice" (166 : Nat) ({ cls := "TileOffice$Pattern", name := "row", desc := "(I)LTileOffice$Row;" } : Jvm.MethodName)) ∈ lw_all := lw_g (lw_at lw_m2 147 rfl) rfl
theorem q472 : (Jvm.Cond.methodLink "TileOffice" (170 : Nat) ({ cls := "java/util/ArrayList", name := "remove", desc := "(I)Ljava/lang/Object;" } : Jvm.MethodName)) ∈ lw_all := lw_g (lw_at lw_m2 154 rfl) rfl
theorem q481 : (Jvm.Cond.instanceMethod ({ cls := "TileOffice", name := "move", desc := "(III)Z" } : Jvm.MethodName)) ∈ lw_all := lw_g (lw_at lw_m2 163 rfl) rfl
theorem q482 : (Jvm.Cond.selects "TileOffice" ({ cls := "TileOffice", name := "move", desc := "(III)Z" } : Jvm.MethodName) ({ cls := "TileOffice", name := "move", desc := "(III)Z" } : Jvm.MethodName)) ∈ lw_all := lw_g (lw_at lw_m2 164 rfl) rfl
theorem q483 : (Jvm.Cond.code ({ cls := "TileOffice", name := "move", desc := "(III)Z" } : Jvm.MethodName) prog_1_method_18_code (5 : Nat) (Option.some Jvm.ClassFile.FieldType.boolean)) ∈ lw_all := lw_g (lw_at lw_m2 165 rfl) rfl
theorem q485 : (Jvm.Cond.instanceMethod ({ cls := "TileOffice", name := "put", desc := "(IIIII)Z" } : Jvm.MethodName)) ∈ lw_all := lw_g (lw_at lw_m2 167 rfl) rfl
theorem q486 : (Jvm.Cond.selects "TileOffice" ({ cls := "TileOffice", name := "put", desc := "(IIIII)Z" } : Jvm.MethodName) ({ cls := "TileOffice", name := "put", desc := "(IIIII)Z" } : Jvm.MethodName)) ∈ lw_all := lw_g (lw_at lw_m2 168 rfl) rfl
theorem q487 : (Jvm.Cond.code ({ cls := "TileOffice", name := "put", desc := "(IIIII)Z" } : Jvm.MethodName) prog_1_method_19_code (8 : Nat) (Option.some Jvm.ClassFile.FieldType.boolean)) ∈ lw_all := lw_g (lw_at lw_m2 169 rfl) rfl
theorem q488 : (Jvm.Cond.methodLink "TileOffice" (173 : Nat) ({ cls := "TileOffice$Pattern", name := "at", desc := "(II)LTileOffice$Row;" } : Jvm.MethodName)) ∈ lw_all := lw_g (lw_at lw_m2 170 rfl) rfl
theorem q497 : (Jvm.Cond.methodLink "TileOffice" (177 : Nat) ({ cls := "TileOffice", name := "own", desc := "(LTileOffice$Pattern;I)LTileOffice$Row;" } : Jvm.MethodName)) ∈ lw_all := lw_g (lw_at lw_m2 179 rfl) rfl
theorem q498 : (Jvm.Cond.privateMethod ({ cls := "TileOffice", name := "own", desc := "(LTileOffice$Pattern;I)LTileOffice$Row;" } : Jvm.MethodName)) ∈ lw_tbl := lw_at lw_m2 180 rfl
theorem q499 : (Jvm.Cond.instanceMethod ({ cls := "TileOffice", name := "own", desc := "(LTileOffice$Pattern;I)LTileOffice$Row;" } : Jvm.MethodName)) ∈ lw_all := lw_g (lw_at lw_m2 181 rfl) rfl
theorem q500 : (Jvm.Cond.code ({ cls := "TileOffice", name := "own", desc := "(LTileOffice$Pattern;I)LTileOffice$Row;" } : Jvm.MethodName) prog_1_method_15_code (4 : Nat) (Option.some (Jvm.ClassFile.FieldType.object "TileOffice$Row"))) ∈ lw_all := lw_g (lw_at lw_m2 182 rfl) rfl
theorem q501 : (Jvm.Cond.methodLink "TileOffice" (143 : Nat) ({ cls := "TileOffice$Row", name := "<init>", desc := "(LTileOffice$Row;)V" } : Jvm.MethodName)) ∈ lw_all := lw_g (lw_at lw_m2 183 rfl) rfl
theorem q516 : (Jvm.Cond.methodLink "TileOffice" (146 : Nat) ({ cls := "java/util/ArrayList", name := "set", desc := "(ILjava/lang/Object;)Ljava/lang/Object;" } : Jvm.MethodName)) ∈ lw_all := lw_g (lw_at lw_m2 198 rfl) rfl
theorem q520 : (Jvm.Cond.methodLink "TileOffice" (184 : Nat) ({ cls := "TileOffice$Row", name := "set", desc := "(IIII)V" } : Jvm.MethodName)) ∈ lw_all := lw_g (lw_at lw_m2 202 rfl) rfl
theorem q525 : (Jvm.Cond.instanceMethod ({ cls := "TileOffice", name := "shade", desc := "(IIII)Z" } : Jvm.MethodName)) ∈ lw_all := lw_g (lw_at lw_m2 207 rfl) rfl
theorem q526 : (Jvm.Cond.selects "TileOffice" ({ cls := "TileOffice", name := "shade", desc := "(IIII)Z" } : Jvm.MethodName) ({ cls := "TileOffice", name := "shade", desc := "(IIII)Z" } : Jvm.MethodName)) ∈ lw_all := lw_g (lw_at lw_m2 208 rfl) rfl
theorem q527 : (Jvm.Cond.code ({ cls := "TileOffice", name := "shade", desc := "(IIII)Z" } : Jvm.MethodName) prog_1_method_20_code (7 : Nat) (Option.some Jvm.ClassFile.FieldType.boolean)) ∈ lw_all := lw_g (lw_at lw_m2 209 rfl) rfl
theorem q529 : (Jvm.Cond.instanceMethod ({ cls := "TileOffice", name := "at", desc := "(IIII)I" } : Jvm.MethodName)) ∈ lw_all := lw_g (lw_at lw_m2 211 rfl) rfl
theorem q530 : (Jvm.Cond.selects "TileOffice" ({ cls := "TileOffice", name := "at", desc := "(IIII)I" } : Jvm.MethodName) ({ cls := "TileOffice", name := "at", desc := "(IIII)I" } : Jvm.MethodName)) ∈ lw_all := lw_g (lw_at lw_m2 212 rfl) rfl
theorem q531 : (Jvm.Cond.code ({ cls := "TileOffice", name := "at", desc := "(IIII)I" } : Jvm.MethodName) prog_1_method_21_code (8 : Nat) (Option.some Jvm.ClassFile.FieldType.int)) ∈ lw_all := lw_g (lw_at lw_m2 213 rfl) rfl
theorem q533 : (Jvm.Cond.instanceMethod ({ cls := "TileOffice", name := "row", desc := "(III)I" } : Jvm.MethodName)) ∈ lw_all := lw_g (lw_at lw_m2 215 rfl) rfl
theorem q534 : (Jvm.Cond.selects "TileOffice" ({ cls := "TileOffice", name := "row", desc := "(III)I" } : Jvm.MethodName) ({ cls := "TileOffice", name := "row", desc := "(III)I" } : Jvm.MethodName)) ∈ lw_all := lw_g (lw_at lw_m2 216 rfl) rfl
theorem q535 : (Jvm.Cond.code ({ cls := "TileOffice", name := "row", desc := "(III)I" } : Jvm.MethodName) prog_1_method_22_code (9 : Nat) (Option.some Jvm.ClassFile.FieldType.int)) ∈ lw_all := lw_g (lw_at lw_m2 217 rfl) rfl
theorem q537 : (Jvm.Cond.instanceMethod ({ cls := "TileOffice", name := "shares", desc := "(IIII)Z" } : Jvm.MethodName)) ∈ lw_all := lw_g (lw_at lw_m2 219 rfl) rfl
theorem q538 : (Jvm.Cond.selects "TileOffice" ({ cls := "TileOffice", name := "shares", desc := "(IIII)Z" } : Jvm.MethodName) ({ cls := "TileOffice", name := "shares", desc := "(IIII)Z" } : Jvm.MethodName)) ∈ lw_all := lw_g (lw_at lw_m2 220 rfl) rfl
theorem q539 : (Jvm.Cond.code ({ cls := "TileOffice", name := "shares", desc := "(IIII)Z" } : Jvm.MethodName) prog_1_method_23_code (8 : Nat) (Option.some Jvm.ClassFile.FieldType.boolean)) ∈ lw_all := lw_g (lw_at lw_m2 221 rfl) rfl
theorem q541 : (Jvm.Cond.instanceMethod ({ cls := "TileOffice", name := "copy", desc := "(I)I" } : Jvm.MethodName)) ∈ lw_all := lw_g (lw_at lw_m2 223 rfl) rfl
theorem q542 : (Jvm.Cond.selects "TileOffice" ({ cls := "TileOffice", name := "copy", desc := "(I)I" } : Jvm.MethodName) ({ cls := "TileOffice", name := "copy", desc := "(I)I" } : Jvm.MethodName)) ∈ lw_all := lw_g (lw_at lw_m2 224 rfl) rfl
theorem q543 : (Jvm.Cond.code ({ cls := "TileOffice", name := "copy", desc := "(I)I" } : Jvm.MethodName) prog_1_method_24_code (4 : Nat) (Option.some Jvm.ClassFile.FieldType.int)) ∈ lw_all := lw_g (lw_at lw_m2 225 rfl) rfl
theorem q544 : (Jvm.Cond.methodLink "TileOffice" (197 : Nat) ({ cls := "java/util/ArrayList", name := "<init>", desc := "(Ljava/util/Collection;)V" } : Jvm.MethodName)) ∈ lw_all := lw_g (lw_at lw_m2 226 rfl) rfl
theorem q546 : (Jvm.Cond.instanceMethod ({ cls := "TileOffice", name := "region", desc := "(IIIII)I" } : Jvm.MethodName)) ∈ lw_all := lw_g (lw_at lw_m2 228 rfl) rfl
theorem q547 : (Jvm.Cond.selects "TileOffice" ({ cls := "TileOffice", name := "region", desc := "(IIIII)I" } : Jvm.MethodName) ({ cls := "TileOffice", name := "region", desc := "(IIIII)I" } : Jvm.MethodName)) ∈ lw_all := lw_g (lw_at lw_m2 229 rfl) rfl
theorem q548 : (Jvm.Cond.code ({ cls := "TileOffice", name := "region", desc := "(IIIII)I" } : Jvm.MethodName) prog_1_method_25_code (11 : Nat) (Option.some Jvm.ClassFile.FieldType.int)) ∈ lw_all := lw_g (lw_at lw_m2 230 rfl) rfl
theorem q549 : (Jvm.Cond.classLink "TileOffice" (200 : Nat) "TileOffice$Block") ∈ lw_all := lw_g (lw_at lw_m2 231 rfl) rfl
theorem q551 : (Jvm.Cond.methodLink "TileOffice" (202 : Nat) ({ cls := "TileOffice$Block", name := "<init>", desc := "(II)V" } : Jvm.MethodName)) ∈ lw_all := lw_g (lw_at lw_m2 233 rfl) rfl
theorem q560 : (Jvm.Cond.fieldLink "TileOffice" (207 : Nat) "TileOffice$Block" "kinds" "[[B") ∈ lw_all := lw_g (lw_at lw_m3 2 rfl) rfl
theorem q562 : (Jvm.Cond.fieldLink "TileOffice" (210 : Nat) "TileOffice$Block" "moves" "[[B") ∈ lw_all := lw_g (lw_at lw_m3 4 rfl) rfl
theorem q564 : (Jvm.Cond.fieldLink "TileOffice" (212 : Nat) "TileOffice$Block" "shades" "[[S") ∈ lw_all := lw_g (lw_at lw_m3 6 rfl) rfl
theorem q573 : (Jvm.Cond.instanceMethod ({ cls := "TileOffice", name := "turn", desc := "(I)Z" } : Jvm.MethodName)) ∈ lw_all := lw_g (lw_at lw_m3 15 rfl) rfl
theorem q574 : (Jvm.Cond.selects "TileOffice" ({ cls := "TileOffice", name := "turn", desc := "(I)Z" } : Jvm.MethodName) ({ cls := "TileOffice", name := "turn", desc := "(I)Z" } : Jvm.MethodName)) ∈ lw_all := lw_g (lw_at lw_m3 16 rfl) rfl
theorem q575 : (Jvm.Cond.code ({ cls := "TileOffice", name := "turn", desc := "(I)Z" } : Jvm.MethodName) prog_1_method_26_code (2 : Nat) (Option.some Jvm.ClassFile.FieldType.boolean)) ∈ lw_all := lw_g (lw_at lw_m3 17 rfl) rfl
theorem q576 : (Jvm.Cond.methodLink "TileOffice" (215 : Nat) ({ cls := "TileOffice$Block", name := "moved", desc := "(ILTileOffice;)LTileOffice$Block;" } : Jvm.MethodName)) ∈ lw_all := lw_g (lw_at lw_m3 18 rfl) rfl
theorem q601 : (Jvm.Cond.instanceMethod ({ cls := "TileOffice", name := "paste", desc := "(III)I" } : Jvm.MethodName)) ∈ lw_all := lw_g (lw_at lw_m3 43 rfl) rfl
theorem q602 : (Jvm.Cond.selects "TileOffice" ({ cls := "TileOffice", name := "paste", desc := "(III)I" } : Jvm.MethodName) ({ cls := "TileOffice", name := "paste", desc := "(III)I" } : Jvm.MethodName)) ∈ lw_all := lw_g (lw_at lw_m3 44 rfl) rfl
theorem q603 : (Jvm.Cond.code ({ cls := "TileOffice", name := "paste", desc := "(III)I" } : Jvm.MethodName) prog_1_method_27_code (10 : Nat) (Option.some Jvm.ClassFile.FieldType.int)) ∈ lw_all := lw_g (lw_at lw_m3 45 rfl) rfl
theorem q604 : (Jvm.Cond.methodLink "TileOffice" (219 : Nat) ({ cls := "TileOffice$Block", name := "rows", desc := "()I" } : Jvm.MethodName)) ∈ lw_all := lw_g (lw_at lw_m3 46 rfl) rfl
theorem q605 : (Jvm.Cond.methodLink "TileOffice" (221 : Nat) ({ cls := "TileOffice$Block", name := "columns", desc := "()I" } : Jvm.MethodName)) ∈ lw_all := lw_g (lw_at lw_m3 47 rfl) rfl
theorem q607 : (Jvm.Cond.instanceMethod ({ cls := "TileOffice", name := "rule", desc := "(II)I" } : Jvm.MethodName)) ∈ lw_all := lw_g (lw_at lw_m3 49 rfl) rfl
theorem q608 : (Jvm.Cond.selects "TileOffice" ({ cls := "TileOffice", name := "rule", desc := "(II)I" } : Jvm.MethodName) ({ cls := "TileOffice", name := "rule", desc := "(II)I" } : Jvm.MethodName)) ∈ lw_all := lw_g (lw_at lw_m3 50 rfl) rfl
theorem q609 : (Jvm.Cond.code ({ cls := "TileOffice", name := "rule", desc := "(II)I" } : Jvm.MethodName) prog_1_method_28_code (3 : Nat) (Option.some Jvm.ClassFile.FieldType.int)) ∈ lw_all := lw_g (lw_at lw_m3 51 rfl) rfl
theorem q610 : (Jvm.Cond.classLink "TileOffice" (64 : Nat) "TileOffice$Rule") ∈ lw_all := lw_g (lw_at lw_m3 52 rfl) rfl
theorem q612 : (Jvm.Cond.methodLink "TileOffice" (224 : Nat) ({ cls := "TileOffice$Rule", name := "<init>", desc := "(II)V" } : Jvm.MethodName)) ∈ lw_all := lw_g (lw_at lw_m3 54 rfl) rfl
theorem q619 : (Jvm.Cond.fieldLink "TileOffice" (229 : Nat) "TileOffice$Rule" "rows" "I") ∈ lw_all := lw_g (lw_at lw_m3 61 rfl) rfl
theorem q621 : (Jvm.Cond.fieldLink "TileOffice" (231 : Nat) "TileOffice$Rule" "columns" "I") ∈ lw_all := lw_g (lw_at lw_m3 63 rfl) rfl
theorem q631 : (Jvm.Cond.instanceMethod ({ cls := "TileOffice", name := "becomes", desc := "(IIIIII)Z" } : Jvm.MethodName)) ∈ lw_all := lw_g (lw_at lw_m3 73 rfl) rfl
theorem q632 : (Jvm.Cond.selects "TileOffice" ({ cls := "TileOffice", name := "becomes", desc := "(IIIIII)Z" } : Jvm.MethodName) ({ cls := "TileOffice", name := "becomes", desc := "(IIIIII)Z" } : Jvm.MethodName)) ∈ lw_all := lw_g (lw_at lw_m3 74 rfl) rfl
theorem q633 : (Jvm.Cond.code ({ cls := "TileOffice", name := "becomes", desc := "(IIIIII)Z" } : Jvm.MethodName) prog_1_method_29_code (9 : Nat) (Option.some Jvm.ClassFile.FieldType.boolean)) ∈ lw_all := lw_g (lw_at lw_m3 75 rfl) rfl
theorem q634 : (Jvm.Cond.methodLink "TileOffice" (225 : Nat) ({ cls := "TileOffice", name := "rule", desc := "(I)LTileOffice$Rule;" } : Jvm.MethodName)) ∈ lw_all := lw_g (lw_at lw_m3 76 rfl) rfl
theorem q635 : (Jvm.Cond.privateMethod ({ cls := "TileOffice", name := "rule", desc := "(I)LTileOffice$Rule;" } : Jvm.MethodName)) ∈ lw_tbl := lw_at lw_m3 77 rfl
theorem q636 : (Jvm.Cond.instanceMethod ({ cls := "TileOffice", name := "rule", desc := "(I)LTileOffice$Rule;" } : Jvm.MethodName)) ∈ lw_all := lw_g (lw_at lw_m3 78 rfl) rfl
theorem q637 : (Jvm.Cond.code ({ cls := "TileOffice", name := "rule", desc := "(I)LTileOffice$Rule;" } : Jvm.MethodName) prog_1_method_5_code (2 : Nat) (Option.some (Jvm.ClassFile.FieldType.object "TileOffice$Rule"))) ∈ lw_all := lw_g (lw_at lw_m3 79 rfl) rfl
theorem q638 : (Jvm.Cond.methodLink "TileOffice" (233 : Nat) ({ cls := "TileOffice$Rule", name := "block", desc := "(I)LTileOffice$Block;" } : Jvm.MethodName)) ∈ lw_all := lw_g (lw_at lw_m3 80 rfl) rfl
theorem q644 : (Jvm.Cond.instanceMethod ({ cls := "TileOffice", name := "grow", desc := "(III)I" } : Jvm.MethodName)) ∈ lw_all := lw_g (lw_at lw_m3 86 rfl) rfl
theorem q645 : (Jvm.Cond.selects "TileOffice" ({ cls := "TileOffice", name := "grow", desc := "(III)I" } : Jvm.MethodName) ({ cls := "TileOffice", name := "grow", desc := "(III)I" } : Jvm.MethodName)) ∈ lw_all := lw_g (lw_at lw_m3 87 rfl) rfl
theorem q646 : (Jvm.Cond.code ({ cls := "TileOffice", name := "grow", desc := "(III)I" } : Jvm.MethodName) prog_1_method_35_code (9 : Nat) (Option.some Jvm.ClassFile.FieldType.int)) ∈ lw_all := lw_g (lw_at lw_m3 88 rfl) rfl
theorem q647 : (Jvm.Cond.methodLink "TileOffice" (267 : Nat) ({ cls := "TileOffice", name := "canGrow", desc := "(LTileOffice$Pattern;LTileOffice$Rule;I)Z" } : Jvm.MethodName)) ∈ lw_all := lw_g (lw_at lw_m3 89 rfl) rfl
theorem q648 : (Jvm.Cond.privateMethod ({ cls := "TileOffice", name := "canGrow", desc := "(LTileOffice$Pattern;LTileOffice$Rule;I)Z" } : Jvm.MethodName)) ∈ lw_tbl := lw_at lw_m3 90 rfl
theorem q649 : (Jvm.Cond.instanceMethod ({ cls := "TileOffice", name := "canGrow", desc := "(LTileOffice$Pattern;LTileOffice$Rule;I)Z" } : Jvm.MethodName)) ∈ lw_all := lw_g (lw_at lw_m3 91 rfl) rfl
theorem q650 : (Jvm.Cond.code ({ cls := "TileOffice", name := "canGrow", desc := "(LTileOffice$Pattern;LTileOffice$Rule;I)Z" } : Jvm.MethodName) prog_1_method_30_code (10 : Nat) (Option.some Jvm.ClassFile.FieldType.boolean)) ∈ lw_all := lw_g (lw_at lw_m3 92 rfl) rfl
theorem q651 : (Jvm.Cond.constantLong "TileOffice" (237 : Nat) (60 : Int64)) ∈ lw_all := lw_g (lw_at lw_m3 93 rfl) rfl
theorem q652 : (Jvm.Cond.methodLink "TileOffice" (239 : Nat) ({ cls := "java/lang/Math", name := "abs", desc := "(I)I" } : Jvm.MethodName)) ∈ lw_all := lw_g (lw_at lw_m3 94 rfl) rfl
theorem q655 : (Jvm.Cond.constantLong "TileOffice" (244 : Nat) (30 : Int64)) ∈ lw_all := lw_g (lw_at lw_m3 97 rfl) rfl
theorem q656 : (Jvm.Cond.methodLink "TileOffice" (246 : Nat) ({ cls := "TileOffice", name := "isTurned", desc := "(LTileOffice$Pattern;LTileOffice$Rule;I)Z" } : Jvm.MethodName)) ∈ lw_all := lw_g (lw_at lw_m3 98 rfl) rfl
theorem q657 : (Jvm.Cond.privateMethod ({ cls := "TileOffice", name := "isTurned", desc := "(LTileOffice$Pattern;LTileOffice$Rule;I)Z" } : Jvm.MethodName)) ∈ lw_tbl := lw_at lw_m3 99 rfl
theorem q658 : (Jvm.Cond.instanceMethod ({ cls := "TileOffice", name := "isTurned", desc := "(LTileOffice$Pattern;LTileOffice$Rule;I)Z" } : Jvm.MethodName)) ∈ lw_all := lw_g (lw_at lw_m3 100 rfl) rfl
theorem q659 : (Jvm.Cond.code ({ cls := "TileOffice", name := "isTurned", desc := "(LTileOffice$Pattern;LTileOffice$Rule;I)Z" } : Jvm.MethodName) prog_1_method_31_code (10 : Nat) (Option.some Jvm.ClassFile.FieldType.boolean)) ∈ lw_all := lw_g (lw_at lw_m3 101 rfl) rfl
theorem q660 : (Jvm.Cond.methodLink "TileOffice" (250 : Nat) ({ cls := "TileOffice", name := "step", desc := "(LTileOffice$Rule;)V" } : Jvm.MethodName)) ∈ lw_all := lw_g (lw_at lw_m3 102 rfl) rfl
theorem q661 : (Jvm.Cond.privateMethod ({ cls := "TileOffice", name := "step", desc := "(LTileOffice$Rule;)V" } : Jvm.MethodName)) ∈ lw_tbl := lw_at lw_m3 103 rfl
theorem q662 : (Jvm.Cond.instanceMethod ({ cls := "TileOffice", name := "step", desc := "(LTileOffice$Rule;)V" } : Jvm.MethodName)) ∈ lw_all := lw_g (lw_at lw_m3 104 rfl) rfl
theorem q663 : (Jvm.Cond.code ({ cls := "TileOffice", name := "step", desc := "(LTileOffice$Rule;)V" } : Jvm.MethodName) prog_1_method_32_code (7 : Nat) (Option.none : Option Jvm.ClassFile.FieldType)) ∈ lw_all := lw_g (lw_at lw_m3 105 rfl) rfl
theorem q664 : (Jvm.Cond.methodLink "TileOffice" (254 : Nat) ({ cls := "java/util/ArrayList", name := "<init>", desc := "(I)V" } : Jvm.MethodName)) ∈ lw_all := lw_g (lw_at lw_m3 106 rfl) rfl
theorem q667 : (Jvm.Cond.methodLink "TileOffice" (270 : Nat) ({ cls := "TileOffice", name := "grown", desc := "(Ljava/util/ArrayList;LTileOffice$Rule;)Ljava/util/ArrayList;" } : Jvm.MethodName)) ∈ lw_all := lw_g (lw_at lw_m3 109 rfl) rfl
theorem q668 : (Jvm.Cond.privateMethod ({ cls := "TileOffice", name := "grown", desc := "(Ljava/util/ArrayList;LTileOffice$Rule;)Ljava/util/ArrayList;" } : Jvm.MethodName)) ∈ lw_tbl := lw_at lw_m3 110 rfl
theorem q669 : (Jvm.Cond.instanceMethod ({ cls := "TileOffice", name := "grown", desc := "(Ljava/util/ArrayList;LTileOffice$Rule;)Ljava/util/ArrayList;" } : Jvm.MethodName)) ∈ lw_all := lw_g (lw_at lw_m3 111 rfl) rfl
theorem q670 : (Jvm.Cond.code ({ cls := "TileOffice", name := "grown", desc := "(Ljava/util/ArrayList;LTileOffice$Rule;)Ljava/util/ArrayList;" } : Jvm.MethodName) prog_1_method_33_code (9 : Nat) (Option.some (Jvm.ClassFile.FieldType.object "java/util/ArrayList"))) ∈ lw_all := lw_g (lw_at lw_m3 112 rfl) rfl
theorem q671 : (Jvm.Cond.methodLink "TileOffice" (257 : Nat) ({ cls := "TileOffice", name := "lay", desc := "(LTileOffice$Row;ILTileOffice$Rule;LTileOffice$Row;II)V" } : Jvm.MethodName)) ∈ lw_all := lw_g (lw_at lw_m3 113 rfl) rfl
theorem q672 : (Jvm.Cond.privateMethod ({ cls := "TileOffice", name := "lay", desc := "(LTileOffice$Row;ILTileOffice$Rule;LTileOffice$Row;II)V" } : Jvm.MethodName)) ∈ lw_tbl := lw_at lw_m3 114 rfl
theorem q673 : (Jvm.Cond.instanceMethod ({ cls := "TileOffice", name := "lay", desc := "(LTileOffice$Row;ILTileOffice$Rule;LTileOffice$Row;II)V" } : Jvm.MethodName)) ∈ lw_all := lw_g (lw_at lw_m3 115 rfl) rfl
theorem q674 : (Jvm.Cond.code ({ cls := "TileOffice", name := "lay", desc := "(LTileOffice$Row;ILTileOffice$Rule;LTileOffice$Row;II)V" } : Jvm.MethodName) prog_1_method_34_code (13 : Nat) (Option.none : Option Jvm.ClassFile.FieldType)) ∈ lw_all := lw_g (lw_at lw_m3 116 rfl) rfl
theorem q675 : (Jvm.Cond.methodLink "TileOffice" (261 : Nat) ({ cls := "TileOffice$Moves", name := "row", desc := "(IIII)I" } : Jvm.MethodName)) ∈ lw_all := lw_g (lw_at lw_m3 117 rfl) rfl
theorem q676 : (Jvm.Cond.methodLink "TileOffice" (264 : Nat) ({ cls := "TileOffice$Moves", name := "column", desc := "(IIII)I" } : Jvm.MethodName)) ∈ lw_all := lw_g (lw_at lw_m3 118 rfl) rfl
theorem q678 : (Jvm.Cond.instanceMethod ({ cls := "TileOffice", name := "foretold", desc := "(IIII)J" } : Jvm.MethodName)) ∈ lw_all := lw_g (lw_at lw_m3 120 rfl) rfl
theorem q679 : (Jvm.Cond.selects "TileOffice" ({ cls := "TileOffice", name := "foretold", desc := "(IIII)J" } : Jvm.MethodName) ({ cls := "TileOffice", name := "foretold", desc := "(IIII)J" } : Jvm.MethodName)) ∈ lw_all := lw_g (lw_at lw_m3 121 rfl) rfl
theorem q680 : (Jvm.Cond.codeWith ({ cls := "TileOffice", name := "foretold", desc := "(IIII)J" } : Jvm.MethodName) prog_1_method_39_code (8 : Nat) (Option.some Jvm.ClassFile.FieldType.long) [((90 : Nat), (159 : Nat), (162 : Nat), (283 : Nat))]) ∈ lw_all := lw_g (lw_at lw_m3 122 rfl) rfl
theorem q681 : (Jvm.Cond.classLink "TileOffice" (283 : Nat) "TileOffice$Beyond") ∈ lw_all := lw_g (lw_at lw_m3 123 rfl) rfl
theorem q682 : (Jvm.Cond.methodLink "TileOffice" (288 : Nat) ({ cls := "TileOffice", name := "fillMatrix", desc := "(LTileOffice$Rule;)V" } : Jvm.MethodName)) ∈ lw_all := lw_g (lw_at lw_m3 124 rfl) rfl
theorem q683 : (Jvm.Cond.privateMethod ({ cls := "TileOffice", name := "fillMatrix", desc := "(LTileOffice$Rule;)V" } : Jvm.MethodName)) ∈ lw_tbl := lw_at lw_m3 125 rfl
theorem q684 : (Jvm.Cond.instanceMethod ({ cls := "TileOffice", name := "fillMatrix", desc := "(LTileOffice$Rule;)V" } : Jvm.MethodName)) ∈ lw_all := lw_g (lw_at lw_m3 126 rfl) rfl
theorem q685 : (Jvm.Cond.code ({ cls := "TileOffice", name := "fillMatrix", desc := "(LTileOffice$Rule;)V" } : Jvm.MethodName) prog_1_method_36_code (12 : Nat) (Option.none : Option Jvm.ClassFile.FieldType)) ∈ lw_all := lw_g (lw_at lw_m3 127 rfl) rfl
theorem q686 : (Jvm.Cond.methodLink "TileOffice" (291 : Nat) ({ cls := "TileOffice", name := "fillLeads", desc := "(II)V" } : Jvm.MethodName)) ∈ lw_all := lw_g (lw_at lw_m3 128 rfl) rfl
theorem q687 : (Jvm.Cond.privateMethod ({ cls := "TileOffice", name := "fillLeads", desc := "(II)V" } : Jvm.MethodName)) ∈ lw_tbl := lw_at lw_m3 129 rfl
theorem q688 : (Jvm.Cond.instanceMethod ({ cls := "TileOffice", name := "fillLeads", desc := "(II)V" } : Jvm.MethodName)) ∈ lw_all := lw_g (lw_at lw_m3 130 rfl) rfl
theorem q689 : (Jvm.Cond.code ({ cls := "TileOffice", name := "fillLeads", desc := "(II)V" } : Jvm.MethodName) prog_1_method_37_code (7 : Nat) (Option.none : Option Jvm.ClassFile.FieldType)) ∈ lw_all := lw_g (lw_at lw_m3 131 rfl) rfl
theorem q690 : (Jvm.Cond.methodLink "TileOffice" (294 : Nat) ({ cls := "TileOffice", name := "multiply", desc := "(I)V" } : Jvm.MethodName)) ∈ lw_all := lw_g (lw_at lw_m3 132 rfl) rfl
theorem q691 : (Jvm.Cond.privateMethod ({ cls := "TileOffice", name := "multiply", desc := "(I)V" } : Jvm.MethodName)) ∈ lw_tbl := lw_at lw_m3 133 rfl
theorem q692 : (Jvm.Cond.instanceMethod ({ cls := "TileOffice", name := "multiply", desc := "(I)V" } : Jvm.MethodName)) ∈ lw_all := lw_g (lw_at lw_m3 134 rfl) rfl
theorem q693 : (Jvm.Cond.codeWith ({ cls := "TileOffice", name := "multiply", desc := "(I)V" } : Jvm.MethodName) prog_1_method_38_code (5 : Nat) (Option.none : Option Jvm.ClassFile.FieldType) [((28 : Nat), (116 : Nat), (119 : Nat), (281 : Nat))]) ∈ lw_all := lw_g (lw_at lw_m3 135 rfl) rfl
theorem q694 : (Jvm.Cond.classLink "TileOffice" (281 : Nat) "java/lang/ArithmeticException") ∈ lw_all := lw_g (lw_at lw_m3 136 rfl) rfl
theorem q763 : (Jvm.Cond.methodLink "TileOffice" (274 : Nat) ({ cls := "java/lang/Math", name := "multiplyExact", desc := "(JJ)J" } : Jvm.MethodName)) ∈ lw_all := lw_g (lw_at lw_m3 205 rfl) rfl
theorem q774 : (Jvm.Cond.methodLink "TileOffice" (278 : Nat) ({ cls := "java/lang/Math", name := "addExact", desc := "(JJ)J" } : Jvm.MethodName)) ∈ lw_all := lw_g (lw_at lw_m3 216 rfl) rfl
theorem q785 : (Jvm.Cond.methodLink "TileOffice" (285 : Nat) ({ cls := "TileOffice$Beyond", name := "<init>", desc := "(Ljava/lang/Throwable;)V" } : Jvm.MethodName)) ∈ lw_all := lw_g (lw_at lw_m3 227 rfl) rfl
theorem q796 : (Jvm.Cond.constantLong "TileOffice" (297 : Nat) (-2 : Int64)) ∈ lw_all := lw_g (lw_at lw_m3 238 rfl) rfl
theorem q798 : (Jvm.Cond.instanceMethod ({ cls := "TileOffice", name := "count", desc := "(II)I" } : Jvm.MethodName)) ∈ lw_all := lw_g (lw_at lw_m4 0 rfl) rfl
theorem q799 : (Jvm.Cond.selects "TileOffice" ({ cls := "TileOffice", name := "count", desc := "(II)I" } : Jvm.MethodName) ({ cls := "TileOffice", name := "count", desc := "(II)I" } : Jvm.MethodName)) ∈ lw_all := lw_g (lw_at lw_m4 1 rfl) rfl
theorem q800 : (Jvm.Cond.code ({ cls := "TileOffice", name := "count", desc := "(II)I" } : Jvm.MethodName) prog_1_method_40_code (10 : Nat) (Option.some Jvm.ClassFile.FieldType.int)) ∈ lw_all := lw_g (lw_at lw_m4 2 rfl) rfl
theorem q802 : (Jvm.Cond.instanceMethod ({ cls := "TileOffice", name := "fits", desc := "(I)I" } : Jvm.MethodName)) ∈ lw_all := lw_g (lw_at lw_m4 4 rfl) rfl
theorem q803 : (Jvm.Cond.selects "TileOffice" ({ cls := "TileOffice", name := "fits", desc := "(I)I" } : Jvm.MethodName) ({ cls := "TileOffice", name := "fits", desc := "(I)I" } : Jvm.MethodName)) ∈ lw_all := lw_g (lw_at lw_m4 5 rfl) rfl
theorem q804 : (Jvm.Cond.code ({ cls := "TileOffice", name := "fits", desc := "(I)I" } : Jvm.MethodName) prog_1_method_42_code (11 : Nat) (Option.some Jvm.ClassFile.FieldType.int)) ∈ lw_all := lw_g (lw_at lw_m4 6 rfl) rfl
theorem q805 : (Jvm.Cond.methodLink "TileOffice" (299 : Nat) ({ cls := "TileOffice", name := "fit", desc := "(LTileOffice$Row;ILTileOffice$Row;II)Z" } : Jvm.MethodName)) ∈ lw_all := lw_g (lw_at lw_m4 7 rfl) rfl
theorem q806 : (Jvm.Cond.privateMethod ({ cls := "TileOffice", name := "fit", desc := "(LTileOffice$Row;ILTileOffice$Row;II)Z" } : Jvm.MethodName)) ∈ lw_tbl := lw_at lw_m4 8 rfl
theorem q807 : (Jvm.Cond.instanceMethod ({ cls := "TileOffice", name := "fit", desc := "(LTileOffice$Row;ILTileOffice$Row;II)Z" } : Jvm.MethodName)) ∈ lw_all := lw_g (lw_at lw_m4 9 rfl) rfl
theorem q808 : (Jvm.Cond.code ({ cls := "TileOffice", name := "fit", desc := "(LTileOffice$Row;ILTileOffice$Row;II)Z" } : Jvm.MethodName) prog_1_method_41_code (8 : Nat) (Option.some Jvm.ClassFile.FieldType.boolean)) ∈ lw_all := lw_g (lw_at lw_m4 10 rfl) rfl
theorem q810 : (Jvm.Cond.instanceMethod ({ cls := "TileOffice", name := "period", desc := "(II)I" } : Jvm.MethodName)) ∈ lw_all := lw_g (lw_at lw_m4 12 rfl) rfl
theorem q811 : (Jvm.Cond.selects "TileOffice" ({ cls := "TileOffice", name := "period", desc := "(II)I" } : Jvm.MethodName) ({ cls := "TileOffice", name := "period", desc := "(II)I" } : Jvm.MethodName)) ∈ lw_all := lw_g (lw_at lw_m4 13 rfl) rfl
theorem q812 : (Jvm.Cond.code ({ cls := "TileOffice", name := "period", desc := "(II)I" } : Jvm.MethodName) prog_1_method_45_code (5 : Nat) (Option.some Jvm.ClassFile.FieldType.int)) ∈ lw_all := lw_g (lw_at lw_m4 14 rfl) rfl
theorem q813 : (Jvm.Cond.methodLink "TileOffice" (307 : Nat) ({ cls := "TileOffice", name := "repeats", desc := "(LTileOffice$Pattern;II)Z" } : Jvm.MethodName)) ∈ lw_all := lw_g (lw_at lw_m4 15 rfl) rfl
theorem q814 : (Jvm.Cond.static ({ cls := "TileOffice", name := "repeats", desc := "(LTileOffice$Pattern;II)Z" } : Jvm.MethodName)) ∈ lw_all := lw_g (lw_at lw_m4 16 rfl) rfl
theorem q815 : (Jvm.Cond.code ({ cls := "TileOffice", name := "repeats", desc := "(LTileOffice$Pattern;II)Z" } : Jvm.MethodName) prog_1_method_44_code (8 : Nat) (Option.some Jvm.ClassFile.FieldType.boolean)) ∈ lw_all := lw_g (lw_at lw_m4 17 rfl) rfl
theorem q816 : (Jvm.Cond.methodLink "TileOffice" (303 : Nat) ({ cls := "TileOffice", name := "isAlike", desc := "(LTileOffice$Row;ILTileOffice$Row;I)Z" } : Jvm.MethodName)) ∈ lw_all := lw_g (lw_at lw_m4 18 rfl) rfl
theorem q817 : (Jvm.Cond.static ({ cls := "TileOffice", name := "isAlike", desc := "(LTileOffice$Row;ILTileOffice$Row;I)Z" } : Jvm.MethodName)) ∈ lw_all := lw_g (lw_at lw_m4 19 rfl) rfl
theorem q818 : (Jvm.Cond.code ({ cls := "TileOffice", name := "isAlike", desc := "(LTileOffice$Row;ILTileOffice$Row;I)Z" } : Jvm.MethodName) prog_1_method_43_code (4 : Nat) (Option.some Jvm.ClassFile.FieldType.boolean)) ∈ lw_all := lw_g (lw_at lw_m4 20 rfl) rfl
theorem q820 : (Jvm.Cond.instanceMethod ({ cls := "TileOffice", name := "kept", desc := "(I)I" } : Jvm.MethodName)) ∈ lw_all := lw_g (lw_at lw_m4 22 rfl) rfl
theorem q821 : (Jvm.Cond.selects "TileOffice" ({ cls := "TileOffice", name := "kept", desc := "(I)I" } : Jvm.MethodName) ({ cls := "TileOffice", name := "kept", desc := "(I)I" } : Jvm.MethodName)) ∈ lw_all := lw_g (lw_at lw_m4 23 rfl) rfl
theorem q822 : (Jvm.Cond.code ({ cls := "TileOffice", name := "kept", desc := "(I)I" } : Jvm.MethodName) prog_1_method_50_code (5 : Nat) (Option.some Jvm.ClassFile.FieldType.int)) ∈ lw_all := lw_g (lw_at lw_m4 24 rfl) rfl
theorem q823 : (Jvm.Cond.methodLink "TileOffice" (323 : Nat) ({ cls := "TileOffice$Pattern", name := "isFull", desc := "()Z" } : Jvm.MethodName)) ∈ lw_all := lw_g (lw_at lw_m4 25 rfl) rfl
theorem q831 : (Jvm.Cond.methodLink "TileOffice" (327 : Nat) ({ cls := "TileOffice", name := "isMoved", desc := "(LTileOffice$Pattern;ILTileOffice$Pattern;)Z" } : Jvm.MethodName)) ∈ lw_all := lw_g (lw_at lw_m4 33 rfl) rfl
theorem q832 : (Jvm.Cond.privateMethod ({ cls := "TileOffice", name := "isMoved", desc := "(LTileOffice$Pattern;ILTileOffice$Pattern;)Z" } : Jvm.MethodName)) ∈ lw_tbl := lw_at lw_m4 34 rfl
theorem q833 : (Jvm.Cond.instanceMethod ({ cls := "TileOffice", name := "isMoved", desc := "(LTileOffice$Pattern;ILTileOffice$Pattern;)Z" } : Jvm.MethodName)) ∈ lw_all := lw_g (lw_at lw_m4 35 rfl) rfl
theorem q834 : (Jvm.Cond.code ({ cls := "TileOffice", name := "isMoved", desc := "(LTileOffice$Pattern;ILTileOffice$Pattern;)Z" } : Jvm.MethodName) prog_1_method_49_code (7 : Nat) (Option.some Jvm.ClassFile.FieldType.boolean)) ∈ lw_all := lw_g (lw_at lw_m4 36 rfl) rfl
theorem q835 : (Jvm.Cond.methodLink "TileOffice" (312 : Nat) ({ cls := "TileOffice", name := "high", desc := "(LTileOffice$Pattern;I)I" } : Jvm.MethodName)) ∈ lw_all := lw_g (lw_at lw_m4 37 rfl) rfl
theorem q836 : (Jvm.Cond.static ({ cls := "TileOffice", name := "high", desc := "(LTileOffice$Pattern;I)I" } : Jvm.MethodName)) ∈ lw_all := lw_g (lw_at lw_m4 38 rfl) rfl
theorem q837 : (Jvm.Cond.code ({ cls := "TileOffice", name := "high", desc := "(LTileOffice$Pattern;I)I" } : Jvm.MethodName) prog_1_method_47_code (2 : Nat) (Option.some Jvm.ClassFile.FieldType.int)) ∈ lw_all := lw_g (lw_at lw_m4 39 rfl) rfl
theorem q838 : (Jvm.Cond.methodLink "TileOffice" (311 : Nat) ({ cls := "TileOffice$Pattern", name := "columns", desc := "()I" } : Jvm.MethodName)) ∈ lw_all := lw_g (lw_at lw_m4 40 rfl) rfl
theorem q842 : (Jvm.Cond.methodLink "TileOffice" (316 : Nat) ({ cls := "TileOffice", name := "wide", desc := "(LTileOffice$Pattern;I)I" } : Jvm.MethodName)) ∈ lw_all := lw_g (lw_at lw_m4 44 rfl) rfl
theorem q843 : (Jvm.Cond.static ({ cls := "TileOffice", name := "wide", desc := "(LTileOffice$Pattern;I)I" } : Jvm.MethodName)) ∈ lw_all := lw_g (lw_at lw_m4 45 rfl) rfl
theorem q844 : (Jvm.Cond.code ({ cls := "TileOffice", name := "wide", desc := "(LTileOffice$Pattern;I)I" } : Jvm.MethodName) prog_1_method_48_code (2 : Nat) (Option.some Jvm.ClassFile.FieldType.int)) ∈ lw_all := lw_g (lw_at lw_m4 46 rfl) rfl
theorem q845 : (Jvm.Cond.methodLink "TileOffice" (319 : Nat) ({ cls := "TileOffice", name := "isMoved", desc := "(LTileOffice$Pattern;IIILTileOffice$Row;I)Z" } : Jvm.MethodName)) ∈ lw_all := lw_g (lw_at lw_m4 47 rfl) rfl
theorem q846 : (Jvm.Cond.privateMethod ({ cls := "TileOffice", name := "isMoved", desc := "(LTileOffice$Pattern;IIILTileOffice$Row;I)Z" } : Jvm.MethodName)) ∈ lw_tbl := lw_at lw_m4 48 rfl
theorem q847 : (Jvm.Cond.instanceMethod ({ cls := "TileOffice", name := "isMoved", desc := "(LTileOffice$Pattern;IIILTileOffice$Row;I)Z" } : Jvm.MethodName)) ∈ lw_all := lw_g (lw_at lw_m4 49 rfl) rfl
theorem q848 : (Jvm.Cond.code ({ cls := "TileOffice", name := "isMoved", desc := "(LTileOffice$Pattern;IIILTileOffice$Row;I)Z" } : Jvm.MethodName) prog_1_method_46_code (10 : Nat) (Option.some Jvm.ClassFile.FieldType.boolean)) ∈ lw_all := lw_g (lw_at lw_m4 50 rfl) rfl
theorem q850 : (Jvm.Cond.instanceMethod ({ cls := "TileOffice", name := "congruent", desc := "(II)I" } : Jvm.MethodName)) ∈ lw_all := lw_g (lw_at lw_m4 52 rfl) rfl
theorem q851 : (Jvm.Cond.selects "TileOffice" ({ cls := "TileOffice", name := "congruent", desc := "(II)I" } : Jvm.MethodName) ({ cls := "TileOffice", name := "congruent", desc := "(II)I" } : Jvm.MethodName)) ∈ lw_all := lw_g (lw_at lw_m4 53 rfl) rfl
theorem q852 : (Jvm.Cond.code ({ cls := "TileOffice", name := "congruent", desc := "(II)I" } : Jvm.MethodName) prog_1_method_51_code (6 : Nat) (Option.some Jvm.ClassFile.FieldType.int)) ∈ lw_all := lw_g (lw_at lw_m4 54 rfl) rfl
theorem q854 : (Jvm.Cond.instanceMethod ({ cls := "TileOffice", name := "find", desc := "(III)I" } : Jvm.MethodName)) ∈ lw_all := lw_g (lw_at lw_m4 56 rfl) rfl
theorem q855 : (Jvm.Cond.selects "TileOffice" ({ cls := "TileOffice", name := "find", desc := "(III)I" } : Jvm.MethodName) ({ cls := "TileOffice", name := "find", desc := "(III)I" } : Jvm.MethodName)) ∈ lw_all := lw_g (lw_at lw_m4 57 rfl) rfl
theorem q856 : (Jvm.Cond.code ({ cls := "TileOffice", name := "find", desc := "(III)I" } : Jvm.MethodName) prog_1_method_53_code (10 : Nat) (Option.some Jvm.ClassFile.FieldType.int)) ∈ lw_all := lw_g (lw_at lw_m4 58 rfl) rfl
theorem q857 : (Jvm.Cond.methodLink "TileOffice" (330 : Nat) ({ cls := "TileOffice", name := "lies", desc := "(LTileOffice$Pattern;IILTileOffice$Pattern;I)Z" } : Jvm.MethodName)) ∈ lw_all := lw_g (lw_at lw_m4 59 rfl) rfl
theorem q858 : (Jvm.Cond.privateMethod ({ cls := "TileOffice", name := "lies", desc := "(LTileOffice$Pattern;IILTileOffice$Pattern;I)Z" } : Jvm.MethodName)) ∈ lw_tbl := lw_at lw_m4 60 rfl
theorem q859 : (Jvm.Cond.instanceMethod ({ cls := "TileOffice", name := "lies", desc := "(LTileOffice$Pattern;IILTileOffice$Pattern;I)Z" } : Jvm.MethodName)) ∈ lw_all := lw_g (lw_at lw_m4 61 rfl) rfl
theorem q860 : (Jvm.Cond.code ({ cls := "TileOffice", name := "lies", desc := "(LTileOffice$Pattern;IILTileOffice$Pattern;I)Z" } : Jvm.MethodName) prog_1_method_52_code (12 : Nat) (Option.some Jvm.ClassFile.FieldType.boolean)) ∈ lw_all := lw_g (lw_at lw_m4 62 rfl) rfl
theorem q862 : (Jvm.Cond.instanceMethod ({ cls := "TileOffice", name := "floor", desc := "(II)I" } : Jvm.MethodName)) ∈ lw_all := lw_g (lw_at lw_m4 64 rfl) rfl
theorem q863 : (Jvm.Cond.selects "TileOffice" ({ cls := "TileOffice", name := "floor", desc := "(II)I" } : Jvm.MethodName) ({ cls := "TileOffice", name := "floor", desc := "(II)I" } : Jvm.MethodName)) ∈ lw_all := lw_g (lw_at lw_m4 65 rfl) rfl
theorem q864 : (Jvm.Cond.code ({ cls := "TileOffice", name := "floor", desc := "(II)I" } : Jvm.MethodName) prog_1_method_54_code (3 : Nat) (Option.some Jvm.ClassFile.FieldType.int)) ∈ lw_all := lw_g (lw_at lw_m4 66 rfl) rfl
theorem q865 : (Jvm.Cond.classLink "TileOffice" (66 : Nat) "TileOffice$Floor") ∈ lw_all := lw_g (lw_at lw_m4 67 rfl) rfl
theorem q867 : (Jvm.Cond.methodLink "TileOffice" (333 : Nat) ({ cls := "TileOffice$Floor", name := "<init>", desc := "(LTileOffice;II)V" } : Jvm.MethodName)) ∈ lw_all := lw_g (lw_at lw_m4 69 rfl) rfl
theorem q878 : (Jvm.Cond.fieldLinkNest "TileOffice" (344 : Nat) "TileOffice$Floor" "stock" "[I" "TileOffice") ∈ lw_tbl := lw_at lw_m4 80 rfl
theorem q937 : (Jvm.Cond.instanceMethod ({ cls := "TileOffice", name := "place", desc := "(IIIII)Z" } : Jvm.MethodName)) ∈ lw_all := lw_g (lw_at lw_m4 139 rfl) rfl
theorem q938 : (Jvm.Cond.selects "TileOffice" ({ cls := "TileOffice", name := "place", desc := "(IIIII)Z" } : Jvm.MethodName) ({ cls := "TileOffice", name := "place", desc := "(IIIII)Z" } : Jvm.MethodName)) ∈ lw_all := lw_g (lw_at lw_m4 140 rfl) rfl
theorem q939 : (Jvm.Cond.code ({ cls := "TileOffice", name := "place", desc := "(IIIII)Z" } : Jvm.MethodName) prog_1_method_55_code (7 : Nat) (Option.some Jvm.ClassFile.FieldType.boolean)) ∈ lw_all := lw_g (lw_at lw_m4 141 rfl) rfl
theorem q940 : (Jvm.Cond.methodLink "TileOffice" (336 : Nat) ({ cls := "TileOffice", name := "floor", desc := "(I)LTileOffice$Floor;" } : Jvm.MethodName)) ∈ lw_all := lw_g (lw_at lw_m4 142 rfl) rfl
theorem q941 : (Jvm.Cond.privateMethod ({ cls := "TileOffice", name := "floor", desc := "(I)LTileOffice$Floor;" } : Jvm.MethodName)) ∈ lw_tbl := lw_at lw_m4 143 rfl
theorem q942 : (Jvm.Cond.instanceMethod ({ cls := "TileOffice", name := "floor", desc := "(I)LTileOffice$Floor;" } : Jvm.MethodName)) ∈ lw_all := lw_g (lw_at lw_m4 144 rfl) rfl
theorem q943 : (Jvm.Cond.code ({ cls := "TileOffice", name := "floor", desc := "(I)LTileOffice$Floor;" } : Jvm.MethodName) prog_1_method_6_code (2 : Nat) (Option.some (Jvm.ClassFile.FieldType.object "TileOffice$Floor"))) ∈ lw_all := lw_g (lw_at lw_m4 145 rfl) rfl
theorem q944 : (Jvm.Cond.methodLink "TileOffice" (340 : Nat) ({ cls := "TileOffice$Floor", name := "place", desc := "(IIII)Z" } : Jvm.MethodName)) ∈ lw_all := lw_g (lw_at lw_m4 146 rfl) rfl
theorem q956 : (Jvm.Cond.instanceMethod ({ cls := "TileOffice", name := "stock", desc := "(III)Z" } : Jvm.MethodName)) ∈ lw_all := lw_g (lw_at lw_m4 158 rfl) rfl
theorem q957 : (Jvm.Cond.selects "TileOffice" ({ cls := "TileOffice", name := "stock", desc := "(III)Z" } : Jvm.MethodName) ({ cls := "TileOffice", name := "stock", desc := "(III)Z" } : Jvm.MethodName)) ∈ lw_all := lw_g (lw_at lw_m4 159 rfl) rfl
theorem q958 : (Jvm.Cond.code ({ cls := "TileOffice", name := "stock", desc := "(III)Z" } : Jvm.MethodName) prog_1_method_56_code (5 : Nat) (Option.some Jvm.ClassFile.FieldType.boolean)) ∈ lw_all := lw_g (lw_at lw_m4 160 rfl) rfl
theorem q960 : (Jvm.Cond.instanceMethod ({ cls := "TileOffice", name := "fill", desc := "(I)I" } : Jvm.MethodName)) ∈ lw_all := lw_g (lw_at lw_m4 162 rfl) rfl
theorem q961 : (Jvm.Cond.selects "TileOffice" ({ cls := "TileOffice", name := "fill", desc := "(I)I" } : Jvm.MethodName) ({ cls := "TileOffice", name := "fill", desc := "(I)I" } : Jvm.MethodName)) ∈ lw_all := lw_g (lw_at lw_m4 163 rfl) rfl
theorem q962 : (Jvm.Cond.code ({ cls := "TileOffice", name := "fill", desc := "(I)I" } : Jvm.MethodName) prog_1_method_57_code (3 : Nat) (Option.some Jvm.ClassFile.FieldType.int)) ∈ lw_all := lw_g (lw_at lw_m4 164 rfl) rfl
theorem q963 : (Jvm.Cond.methodLink "TileOffice" (347 : Nat) ({ cls := "TileOffice$Floor", name := "fill", desc := "()I" } : Jvm.MethodName)) ∈ lw_all := lw_g (lw_at lw_m4 165 rfl) rfl
theorem q1018 : (Jvm.Cond.instanceMethod ({ cls := "TileOffice", name := "fills", desc := "(II)I" } : Jvm.MethodName)) ∈ lw_all := lw_g (lw_at lw_m4 220 rfl) rfl
theorem q1019 : (Jvm.Cond.selects "TileOffice" ({ cls := "TileOffice", name := "fills", desc := "(II)I" } : Jvm.MethodName) ({ cls := "TileOffice", name := "fills", desc := "(II)I" } : Jvm.MethodName)) ∈ lw_all := lw_g (lw_at lw_m4 221 rfl) rfl
theorem q1020 : (Jvm.Cond.code ({ cls := "TileOffice", name := "fills", desc := "(II)I" } : Jvm.MethodName) prog_1_method_58_code (4 : Nat) (Option.some Jvm.ClassFile.FieldType.int)) ∈ lw_all := lw_g (lw_at lw_m4 222 rfl) rfl
theorem q1021 : (Jvm.Cond.methodLink "TileOffice" (350 : Nat) ({ cls := "TileOffice$Floor", name := "fills", desc := "(I)I" } : Jvm.MethodName)) ∈ lw_all := lw_g (lw_at lw_m4 223 rfl) rfl
theorem q1026 : (Jvm.Cond.instanceMethod ({ cls := "TileOffice", name := "cheapest", desc := "(I)I" } : Jvm.MethodName)) ∈ lw_all := lw_g (lw_at lw_m4 228 rfl) rfl
theorem q1027 : (Jvm.Cond.selects "TileOffice" ({ cls := "TileOffice", name := "cheapest", desc := "(I)I" } : Jvm.MethodName) ({ cls := "TileOffice", name := "cheapest", desc := "(I)I" } : Jvm.MethodName)) ∈ lw_all := lw_g (lw_at lw_m4 229 rfl) rfl
theorem q1028 : (Jvm.Cond.code ({ cls := "TileOffice", name := "cheapest", desc := "(I)I" } : Jvm.MethodName) prog_1_method_59_code (3 : Nat) (Option.some Jvm.ClassFile.FieldType.int)) ∈ lw_all := lw_g (lw_at lw_m4 230 rfl) rfl
theorem q1029 : (Jvm.Cond.methodLink "TileOffice" (353 : Nat) ({ cls := "TileOffice$Floor", name := "cost", desc := "()I" } : Jvm.MethodName)) ∈ lw_all := lw_g (lw_at lw_m4 231 rfl) rfl
theorem q1034 : (Jvm.Cond.instanceMethod ({ cls := "TileOffice", name := "forced", desc := "(I)I" } : Jvm.MethodName)) ∈ lw_all := lw_g (lw_at lw_m4 236 rfl) rfl
theorem q1035 : (Jvm.Cond.selects "TileOffice" ({ cls := "TileOffice", name := "forced", desc := "(I)I" } : Jvm.MethodName) ({ cls := "TileOffice", name := "forced", desc := "(I)I" } : Jvm.MethodName)) ∈ lw_all := lw_g (lw_at lw_m4 237 rfl) rfl
theorem q1036 : (Jvm.Cond.code ({ cls := "TileOffice", name := "forced", desc := "(I)I" } : Jvm.MethodName) prog_1_method_60_code (3 : Nat) (Option.some Jvm.ClassFile.FieldType.int)) ∈ lw_all := lw_g (lw_at lw_m4 238 rfl) rfl
theorem q1037 : (Jvm.Cond.methodLink "TileOffice" (356 : Nat) ({ cls := "TileOffice$Floor", name := "forced", desc := "()I" } : Jvm.MethodName)) ∈ lw_all := lw_g (lw_at lw_m4 239 rfl) rfl
theorem q1050 : (Jvm.Cond.instanceMethod ({ cls := "TileOffice", name := "shown", desc := "(III)I" } : Jvm.MethodName)) ∈ lw_all := lw_g (lw_at lw_m5 12 rfl) rfl
theorem q1051 : (Jvm.Cond.selects "TileOffice" ({ cls := "TileOffice", name := "shown", desc := "(III)I" } : Jvm.MethodName) ({ cls := "TileOffice", name := "shown", desc := "(III)I" } : Jvm.MethodName)) ∈ lw_all := lw_g (lw_at lw_m5 13 rfl) rfl
theorem q1052 : (Jvm.Cond.code ({ cls := "TileOffice", name := "shown", desc := "(III)I" } : Jvm.MethodName) prog_1_method_61_code (5 : Nat) (Option.some Jvm.ClassFile.FieldType.int)) ∈ lw_all := lw_g (lw_at lw_m5 14 rfl) rfl
theorem q1053 : (Jvm.Cond.methodLink "TileOffice" (359 : Nat) ({ cls := "TileOffice$Floor", name := "shown", desc := "(II)I" } : Jvm.MethodName)) ∈ lw_all := lw_g (lw_at lw_m5 15 rfl) rfl
theorem q1058 : (Jvm.Cond.instanceMethod ({ cls := "TileOffice", name := "undo", desc := "()I" } : Jvm.MethodName)) ∈ lw_all := lw_g (lw_at lw_m5 20 rfl) rfl
theorem q1059 : (Jvm.Cond.selects "TileOffice" ({ cls := "TileOffice", name := "undo", desc := "()I" } : Jvm.MethodName) ({ cls := "TileOffice", name := "undo", desc := "()I" } : Jvm.MethodName)) ∈ lw_all := lw_g (lw_at lw_m5 21 rfl) rfl
theorem q1060 : (Jvm.Cond.code ({ cls := "TileOffice", name := "undo", desc := "()I" } : Jvm.MethodName) prog_1_method_62_code (1 : Nat) (Option.some Jvm.ClassFile.FieldType.int)) ∈ lw_all := lw_g (lw_at lw_m5 22 rfl) rfl
theorem q1062 : (Jvm.Cond.instanceMethod ({ cls := "TileOffice", name := "about", desc := "(I)I" } : Jvm.MethodName)) ∈ lw_all := lw_g (lw_at lw_m5 24 rfl) rfl
theorem q1063 : (Jvm.Cond.selects "TileOffice" ({ cls := "TileOffice", name := "about", desc := "(I)I" } : Jvm.MethodName) ({ cls := "TileOffice", name := "about", desc := "(I)I" } : Jvm.MethodName)) ∈ lw_all := lw_g (lw_at lw_m5 25 rfl) rfl
theorem q1064 : (Jvm.Cond.code ({ cls := "TileOffice", name := "about", desc := "(I)I" } : Jvm.MethodName) prog_1_method_63_code (2 : Nat) (Option.some Jvm.ClassFile.FieldType.int)) ∈ lw_all := lw_g (lw_at lw_m5 26 rfl) rfl
theorem q1581 : (Jvm.Cond.castable "TileOffice" "java/lang/Object") ∈ lw_tbl := lw_at lw_m7 63 rfl
theorem in_X0 : ∀ w ∈ wsX00, w ∈ lw_all := lw_in wsX00 [162, 164, 166, 168, 170, 172, 174, 176, 178, 180, 182, 184, 186, 188, 190] (by decide +kernel) (by decide +kernel)

/-! java/util/AbstractCollection -/
def RJ0 : String := "java/util/AbstractCollection"
abbrev cJ0_init : ByteArray := prog_23_method_1_code
def yJ0_init : MethodName := ⟨RJ0, "<init>", "()V"⟩
theorem q80 : (Jvm.Cond.initialized "java/util/AbstractCollection") ∈ lw_all := lw_g (lw_at lw_m1 2 rfl) rfl
theorem q121 : (Jvm.Cond.instanceMethod ({ cls := "java/util/AbstractCollection", name := "<init>", desc := "()V" } : Jvm.MethodName)) ∈ lw_all := lw_g (lw_at lw_m1 43 rfl) rfl
theorem q122 : (Jvm.Cond.code ({ cls := "java/util/AbstractCollection", name := "<init>", desc := "()V" } : Jvm.MethodName) prog_23_method_1_code (1 : Nat) (Option.none : Option Jvm.ClassFile.FieldType)) ∈ lw_all := lw_g (lw_at lw_m1 44 rfl) rfl
theorem q123 : (Jvm.Cond.methodLink "java/util/AbstractCollection" (1 : Nat) ({ cls := "java/lang/Object", name := "<init>", desc := "()V" } : Jvm.MethodName)) ∈ lw_all := lw_g (lw_at lw_m1 45 rfl) rfl

/-! java/util/AbstractList -/
def RJ1 : String := "java/util/AbstractList"
abbrev cJ1_init : ByteArray := prog_24_method_1_code
def yJ1_init : MethodName := ⟨RJ1, "<init>", "()V"⟩
theorem q81 : (Jvm.Cond.initialized "java/util/AbstractList") ∈ lw_all := lw_g (lw_at lw_m1 3 rfl) rfl
theorem q118 : (Jvm.Cond.instanceMethod ({ cls := "java/util/AbstractList", name := "<init>", desc := "()V" } : Jvm.MethodName)) ∈ lw_all := lw_g (lw_at lw_m1 40 rfl) rfl
theorem q119 : (Jvm.Cond.code ({ cls := "java/util/AbstractList", name := "<init>", desc := "()V" } : Jvm.MethodName) prog_24_method_1_code (1 : Nat) (Option.none : Option Jvm.ClassFile.FieldType)) ∈ lw_all := lw_g (lw_at lw_m1 41 rfl) rfl
theorem q120 : (Jvm.Cond.methodLink "java/util/AbstractList" (1 : Nat) ({ cls := "java/util/AbstractCollection", name := "<init>", desc := "()V" } : Jvm.MethodName)) ∈ lw_all := lw_g (lw_at lw_m1 42 rfl) rfl
theorem q128 : (Jvm.Cond.fieldLink "java/util/AbstractList" (7 : Nat) "java/util/AbstractList" "modCount" "I") ∈ lw_all := lw_g (lw_at lw_m1 50 rfl) rfl
theorem q136 : (Jvm.Cond.soleField "java/util/AbstractList" "modCount") ∈ lw_all := lw_g (lw_at lw_m1 58 rfl) rfl

/-! java/util/ArrayList -/
def RJ2 : String := "java/util/ArrayList"
def TJ2 : u_T := fun k => match k with
  | 0 => ("java/util/AbstractList", "modCount", "I", false)
  | 1 => ("java/util/ArrayList", "elementData", "[Ljava/lang/Object;", false)
  | _ => ("java/util/ArrayList", "size", "I", false)
def tyJ2 : Nat → FieldType := fun k => match k with
  | 0 => .int
  | 1 => .array (.object "java/lang/Object")
  | _ => .int
abbrev wsJ20 : List Cond := u_ws RJ2 TJ2 3
theorem nmJ2 : ∀ a, a < 3 → ∀ b, b < 3 → a ≠ b → (TJ2 a).2.1 ≠ (TJ2 b).2.1 := by decide +kernel
theorem tyJ2_ok : ∀ k, k < 3 → parseFieldDescriptor (TJ2 k).2.2.1 = some (tyJ2 k) := by decide +kernel
abbrev cJ2_init : ByteArray := prog_25_method_2_code
def yJ2_init : MethodName := ⟨RJ2, "<init>", "()V"⟩
abbrev cJ2_size : ByteArray := prog_25_method_8_code
def yJ2_size : MethodName := ⟨RJ2, "size", "()I"⟩
abbrev cJ2_get : ByteArray := prog_25_method_20_code
def yJ2_get : MethodName := ⟨RJ2, "get", "(I)Ljava/lang/Object;"⟩
abbrev cJ2_elementData : ByteArray := prog_25_method_18_code
def yJ2_elementData : MethodName := ⟨RJ2, "elementData", "(I)Ljava/lang/Object;"⟩
abbrev cJ2_add : ByteArray := prog_25_method_25_code
def yJ2_add : MethodName := ⟨RJ2, "add", "(Ljava/lang/Object;)Z"⟩
abbrev cJ2_add_2 : ByteArray := prog_25_method_24_code
def yJ2_add_2 : MethodName := ⟨RJ2, "add", "(Ljava/lang/Object;[Ljava/lang/Object;I)V"⟩
abbrev cJ2_grow : ByteArray := prog_25_method_7_code
def yJ2_grow : MethodName := ⟨RJ2, "grow", "()[Ljava/lang/Object;"⟩
abbrev cJ2_grow_2 : ByteArray := prog_25_method_6_code
def yJ2_grow_2 : MethodName := ⟨RJ2, "grow", "(I)[Ljava/lang/Object;"⟩
abbrev cJ2_init_2 : ByteArray := prog_25_method_3_code
def yJ2_init_2 : MethodName := ⟨RJ2, "<init>", "(Ljava/util/Collection;)V"⟩
abbrev cJ2_toArray : ByteArray := prog_25_method_16_code
def yJ2_toArray : MethodName := ⟨RJ2, "toArray", "()[Ljava/lang/Object;"⟩
abbrev cJ2_add_3 : ByteArray := prog_25_method_26_code
def yJ2_add_3 : MethodName := ⟨RJ2, "add", "(ILjava/lang/Object;)V"⟩
abbrev cJ2_rangeCheckForAdd : ByteArray := prog_25_method_45_code
def yJ2_rangeCheckForAdd : MethodName := ⟨RJ2, "rangeCheckForAdd", "(I)V"⟩
abbrev cJ2_remove : ByteArray := prog_25_method_29_code
def yJ2_remove : MethodName := ⟨RJ2, "remove", "(I)Ljava/lang/Object;"⟩
abbrev cJ2_fastRemove : ByteArray := prog_25_method_39_code
def yJ2_fastRemove : MethodName := ⟨RJ2, "fastRemove", "([Ljava/lang/Object;I)V"⟩
abbrev cJ2_set : ByteArray := prog_25_method_23_code
def yJ2_set : MethodName := ⟨RJ2, "set", "(ILjava/lang/Object;)Ljava/lang/Object;"⟩
abbrev cJ2_init_3 : ByteArray := prog_25_method_1_code
def yJ2_init_3 : MethodName := ⟨RJ2, "<init>", "(I)V"⟩
abbrev cJ2_isEmpty : ByteArray := prog_25_method_9_code
def yJ2_isEmpty : MethodName := ⟨RJ2, "isEmpty", "()Z"⟩
theorem q82 : (Jvm.Cond.initialized "java/util/ArrayList") ∈ lw_all := lw_g (lw_at lw_m1 4 rfl) rfl
theorem q113 : (Jvm.Cond.instantiable "java/util/ArrayList" (3 : Nat)) ∈ lw_all := lw_g (lw_at lw_m1 35 rfl) rfl
theorem q115 : (Jvm.Cond.instanceMethod ({ cls := "java/util/ArrayList", name := "<init>", desc := "()V" } : Jvm.MethodName)) ∈ lw_all := lw_g (lw_at lw_m1 37 rfl) rfl
theorem q116 : (Jvm.Cond.code ({ cls := "java/util/ArrayList", name := "<init>", desc := "()V" } : Jvm.MethodName) prog_25_method_2_code (1 : Nat) (Option.none : Option Jvm.ClassFile.FieldType)) ∈ lw_all := lw_g (lw_at lw_m1 38 rfl) rfl
theorem q117 : (Jvm.Cond.methodLink "java/util/ArrayList" (1 : Nat) ({ cls := "java/util/AbstractList", name := "<init>", desc := "()V" } : Jvm.MethodName)) ∈ lw_all := lw_g (lw_at lw_m1 39 rfl) rfl
theorem q124 : (Jvm.Cond.fieldLink "java/util/ArrayList" (39 : Nat) "java/util/ArrayList" "DEFAULTCAPACITY_EMPTY_ELEMENTDATA" "[Ljava/lang/Object;") ∈ lw_all := lw_g (lw_at lw_m1 46 rfl) rfl
theorem q125 : (Jvm.Cond.laysStatic "java/util/ArrayList" "DEFAULTCAPACITY_EMPTY_ELEMENTDATA" "[Ljava/lang/Object;") ∈ lw_tbl := lw_at lw_m1 47 rfl
theorem q126 : (Jvm.Cond.fieldLink "java/util/ArrayList" (9 : Nat) "java/util/ArrayList" "elementData" "[Ljava/lang/Object;") ∈ lw_all := lw_g (lw_at lw_m1 48 rfl) rfl
theorem q127 : (Jvm.Cond.fieldLink "java/util/ArrayList" (48 : Nat) "java/util/ArrayList" "size" "I") ∈ lw_all := lw_g (lw_at lw_m1 49 rfl) rfl
theorem q129 : (Jvm.Cond.fieldLink "java/util/ArrayList" (63 : Nat) "java/util/ArrayList" "modCount" "I") ∈ lw_all := lw_g (lw_at lw_m1 51 rfl) rfl
theorem q130 : (Jvm.Cond.sameField "java/util/ArrayList" "java/util/AbstractList" "modCount" "I") ∈ lw_all := lw_g (lw_at lw_m1 52 rfl) rfl
theorem q131 : (Jvm.Cond.lays "java/util/ArrayList" "java/util/ArrayList" "elementData" "[Ljava/lang/Object;") ∈ lw_all := lw_g (lw_at lw_m1 53 rfl) rfl
theorem q132 : (Jvm.Cond.soleField "java/util/ArrayList" "elementData") ∈ lw_all := lw_g (lw_at lw_m1 54 rfl) rfl
theorem q133 : (Jvm.Cond.lays "java/util/ArrayList" "java/util/ArrayList" "size" "I") ∈ lw_all := lw_g (lw_at lw_m1 55 rfl) rfl
theorem q134 : (Jvm.Cond.soleField "java/util/ArrayList" "size") ∈ lw_all := lw_g (lw_at lw_m1 56 rfl) rfl
theorem q135 : (Jvm.Cond.lays "java/util/ArrayList" "java/util/AbstractList" "modCount" "I") ∈ lw_all := lw_g (lw_at lw_m1 57 rfl) rfl
theorem q137 : (Jvm.Cond.superclass "java/util/ArrayList" "java/util/AbstractList") ∈ lw_all := lw_g (lw_at lw_m1 59 rfl) rfl
theorem q207 : (Jvm.Cond.instanceMethod ({ cls := "java/util/ArrayList", name := "size", desc := "()I" } : Jvm.MethodName)) ∈ lw_all := lw_g (lw_at lw_m1 129 rfl) rfl
theorem q208 : (Jvm.Cond.selects "java/util/ArrayList" ({ cls := "java/util/ArrayList", name := "size", desc := "()I" } : Jvm.MethodName) ({ cls := "java/util/ArrayList", name := "size", desc := "()I" } : Jvm.MethodName)) ∈ lw_all := lw_g (lw_at lw_m1 130 rfl) rfl
theorem q209 : (Jvm.Cond.code ({ cls := "java/util/ArrayList", name := "size", desc := "()I" } : Jvm.MethodName) prog_25_method_8_code (1 : Nat) (Option.some Jvm.ClassFile.FieldType.int)) ∈ lw_all := lw_g (lw_at lw_m1 131 rfl) rfl
theorem q211 : (Jvm.Cond.instanceMethod ({ cls := "java/util/ArrayList", name := "get", desc := "(I)Ljava/lang/Object;" } : Jvm.MethodName)) ∈ lw_all := lw_g (lw_at lw_m1 133 rfl) rfl
theorem q212 : (Jvm.Cond.selects "java/util/ArrayList" ({ cls := "java/util/ArrayList", name := "get", desc := "(I)Ljava/lang/Object;" } : Jvm.MethodName) ({ cls := "java/util/ArrayList", name := "get", desc := "(I)Ljava/lang/Object;" } : Jvm.MethodName)) ∈ lw_all := lw_g (lw_at lw_m1 134 rfl) rfl
theorem q213 : (Jvm.Cond.code ({ cls := "java/util/ArrayList", name := "get", desc := "(I)Ljava/lang/Object;" } : Jvm.MethodName) prog_25_method_20_code (2 : Nat) (Option.some (Jvm.ClassFile.FieldType.object "java/lang/Object"))) ∈ lw_all := lw_g (lw_at lw_m1 135 rfl) rfl
theorem q214 : (Jvm.Cond.methodLink "java/util/ArrayList" (118 : Nat) ({ cls := "java/util/Objects", name := "checkIndex", desc := "(II)I" } : Jvm.MethodName)) ∈ lw_all := lw_g (lw_at lw_m1 136 rfl) rfl
theorem q220 : (Jvm.Cond.methodLink "java/util/ArrayList" (123 : Nat) ({ cls := "java/util/ArrayList", name := "elementData", desc := "(I)Ljava/lang/Object;" } : Jvm.MethodName)) ∈ lw_all := lw_g (lw_at lw_m1 142 rfl) rfl
theorem q221 : (Jvm.Cond.instanceMethod ({ cls := "java/util/ArrayList", name := "elementData", desc := "(I)Ljava/lang/Object;" } : Jvm.MethodName)) ∈ lw_all := lw_g (lw_at lw_m1 143 rfl) rfl
theorem q222 : (Jvm.Cond.selects "java/util/ArrayList" ({ cls := "java/util/ArrayList", name := "elementData", desc := "(I)Ljava/lang/Object;" } : Jvm.MethodName) ({ cls := "java/util/ArrayList", name := "elementData", desc := "(I)Ljava/lang/Object;" } : Jvm.MethodName)) ∈ lw_all := lw_g (lw_at lw_m1 144 rfl) rfl
theorem q223 : (Jvm.Cond.code ({ cls := "java/util/ArrayList", name := "elementData", desc := "(I)Ljava/lang/Object;" } : Jvm.MethodName) prog_25_method_18_code (2 : Nat) (Option.some (Jvm.ClassFile.FieldType.object "java/lang/Object"))) ∈ lw_all := lw_g (lw_at lw_m1 145 rfl) rfl
theorem q257 : (Jvm.Cond.instanceMethod ({ cls := "java/util/ArrayList", name := "add", desc := "(Ljava/lang/Object;)Z" } : Jvm.MethodName)) ∈ lw_all := lw_g (lw_at lw_m1 179 rfl) rfl
theorem q258 : (Jvm.Cond.selects "java/util/ArrayList" ({ cls := "java/util/ArrayList", name := "add", desc := "(Ljava/lang/Object;)Z" } : Jvm.MethodName) ({ cls := "java/util/ArrayList", name := "add", desc := "(Ljava/lang/Object;)Z" } : Jvm.MethodName)) ∈ lw_all := lw_g (lw_at lw_m1 180 rfl) rfl
theorem q259 : (Jvm.Cond.code ({ cls := "java/util/ArrayList", name := "add", desc := "(Ljava/lang/Object;)Z" } : Jvm.MethodName) prog_25_method_25_code (2 : Nat) (Option.some Jvm.ClassFile.FieldType.boolean)) ∈ lw_all := lw_g (lw_at lw_m1 181 rfl) rfl
theorem q260 : (Jvm.Cond.methodLink "java/util/ArrayList" (131 : Nat) ({ cls := "java/util/ArrayList", name := "add", desc := "(Ljava/lang/Object;[Ljava/lang/Object;I)V" } : Jvm.MethodName)) ∈ lw_all := lw_g (lw_at lw_m1 182 rfl) rfl
theorem q261 : (Jvm.Cond.privateMethod ({ cls := "java/util/ArrayList", name := "add", desc := "(Ljava/lang/Object;[Ljava/lang/Object;I)V" } : Jvm.MethodName)) ∈ lw_tbl := lw_at lw_m1 183 rfl
theorem q262 : (Jvm.Cond.instanceMethod ({ cls := "java/util/ArrayList", name := "add", desc := "(Ljava/lang/Object;[Ljava/lang/Object;I)V" } : Jvm.MethodName)) ∈ lw_all := lw_g (lw_at lw_m1 184 rfl) rfl
theorem q263 : (Jvm.Cond.code ({ cls := "java/util/ArrayList", name := "add", desc := "(Ljava/lang/Object;[Ljava/lang/Object;I)V" } : Jvm.MethodName) prog_25_method_24_code (4 : Nat) (Option.none : Option Jvm.ClassFile.FieldType)) ∈ lw_all := lw_g (lw_at lw_m1 185 rfl) rfl
theorem q264 : (Jvm.Cond.methodLink "java/util/ArrayList" (129 : Nat) ({ cls := "java/util/ArrayList", name := "grow", desc := "()[Ljava/lang/Object;" } : Jvm.MethodName)) ∈ lw_all := lw_g (lw_at lw_m1 186 rfl) rfl
theorem q265 : (Jvm.Cond.privateMethod ({ cls := "java/util/ArrayList", name := "grow", desc := "()[Ljava/lang/Object;" } : Jvm.MethodName)) ∈ lw_tbl := lw_at lw_m1 187 rfl
theorem q266 : (Jvm.Cond.instanceMethod ({ cls := "java/util/ArrayList", name := "grow", desc := "()[Ljava/lang/Object;" } : Jvm.MethodName)) ∈ lw_all := lw_g (lw_at lw_m1 188 rfl) rfl
theorem q267 : (Jvm.Cond.code ({ cls := "java/util/ArrayList", name := "grow", desc := "()[Ljava/lang/Object;" } : Jvm.MethodName) prog_25_method_7_code (1 : Nat) (Option.some (Jvm.ClassFile.FieldType.array (Jvm.ClassFile.FieldType.object "java/lang/Object")))) ∈ lw_all := lw_g (lw_at lw_m1 189 rfl) rfl
theorem q268 : (Jvm.Cond.methodLink "java/util/ArrayList" (69 : Nat) ({ cls := "java/util/ArrayList", name := "grow", desc := "(I)[Ljava/lang/Object;" } : Jvm.MethodName)) ∈ lw_all := lw_g (lw_at lw_m1 190 rfl) rfl
theorem q269 : (Jvm.Cond.privateMethod ({ cls := "java/util/ArrayList", name := "grow", desc := "(I)[Ljava/lang/Object;" } : Jvm.MethodName)) ∈ lw_tbl := lw_at lw_m1 191 rfl
theorem q270 : (Jvm.Cond.instanceMethod ({ cls := "java/util/ArrayList", name := "grow", desc := "(I)[Ljava/lang/Object;" } : Jvm.MethodName)) ∈ lw_all := lw_g (lw_at lw_m1 192 rfl) rfl
theorem q271 : (Jvm.Cond.code ({ cls := "java/util/ArrayList", name := "grow", desc := "(I)[Ljava/lang/Object;" } : Jvm.MethodName) prog_25_method_6_code (4 : Nat) (Option.some (Jvm.ClassFile.FieldType.array (Jvm.ClassFile.FieldType.object "java/lang/Object")))) ∈ lw_all := lw_g (lw_at lw_m1 193 rfl) rfl
theorem q272 : (Jvm.Cond.methodLink "java/util/ArrayList" (73 : Nat) ({ cls := "jdk/internal/util/ArraysSupport", name := "newLength", desc := "(III)I" } : Jvm.MethodName)) ∈ lw_all := lw_g (lw_at lw_m1 194 rfl) rfl
theorem q282 : (Jvm.Cond.methodLink "java/util/ArrayList" (66 : Nat) ({ cls := "java/util/Arrays", name := "copyOf", desc := "([Ljava/lang/Object;I)[Ljava/lang/Object;" } : Jvm.MethodName)) ∈ lw_all := lw_g (lw_at lw_m1 204 rfl) rfl
theorem q299 : (Jvm.Cond.selects "java/util/ArrayList" ({ cls := "java/lang/Object", name := "getClass", desc := "()Ljava/lang/Class;" } : Jvm.MethodName) ({ cls := "java/lang/Object", name := "getClass", desc := "()Ljava/lang/Class;" } : Jvm.MethodName)) ∈ lw_all := lw_g (lw_at lw_m1 221 rfl) rfl
theorem q313 : (Jvm.Cond.methodLink "java/util/ArrayList" (79 : Nat) ({ cls := "java/lang/Math", name := "max", desc := "(II)I" } : Jvm.MethodName)) ∈ lw_all := lw_g (lw_at lw_m1 235 rfl) rfl
theorem q314 : (Jvm.Cond.classLink "java/util/ArrayList" (7 : Nat) "java/lang/Object") ∈ lw_all := lw_g (lw_at lw_m1 236 rfl) rfl
theorem q393 : (Jvm.Cond.instanceMethod ({ cls := "java/util/ArrayList", name := "<init>", desc := "(Ljava/util/Collection;)V" } : Jvm.MethodName)) ∈ lw_all := lw_g (lw_at lw_m2 75 rfl) rfl
theorem q394 : (Jvm.Cond.code ({ cls := "java/util/ArrayList", name := "<init>", desc := "(Ljava/util/Collection;)V" } : Jvm.MethodName) prog_25_method_3_code (3 : Nat) (Option.none : Option Jvm.ClassFile.FieldType)) ∈ lw_all := lw_g (lw_at lw_m2 76 rfl) rfl
theorem q395 : (Jvm.Cond.interfaceEntry "java/util/ArrayList" (42 : Nat)) ∈ lw_tbl := lw_at lw_m2 77 rfl
theorem q396 : (Jvm.Cond.methodLink "java/util/ArrayList" (42 : Nat) ({ cls := "java/util/Collection", name := "toArray", desc := "()[Ljava/lang/Object;" } : Jvm.MethodName)) ∈ lw_all := lw_g (lw_at lw_m2 78 rfl) rfl
theorem q399 : (Jvm.Cond.castable "java/util/ArrayList" "java/util/Collection") ∈ lw_tbl := lw_at lw_m2 81 rfl
theorem q400 : (Jvm.Cond.selects "java/util/ArrayList" ({ cls := "java/util/Collection", name := "toArray", desc := "()[Ljava/lang/Object;" } : Jvm.MethodName) ({ cls := "java/util/ArrayList", name := "toArray", desc := "()[Ljava/lang/Object;" } : Jvm.MethodName)) ∈ lw_all := lw_g (lw_at lw_m2 82 rfl) rfl
theorem q401 : (Jvm.Cond.unhidden "java/util/ArrayList" "toArray" "()[Ljava/lang/Object;") ∈ lw_tbl := lw_at lw_m2 83 rfl
theorem q402 : (Jvm.Cond.instanceMethod ({ cls := "java/util/ArrayList", name := "toArray", desc := "()[Ljava/lang/Object;" } : Jvm.MethodName)) ∈ lw_all := lw_g (lw_at lw_m2 84 rfl) rfl
theorem q403 : (Jvm.Cond.publicMethod ({ cls := "java/util/ArrayList", name := "toArray", desc := "()[Ljava/lang/Object;" } : Jvm.MethodName)) ∈ lw_tbl := lw_at lw_m2 85 rfl
theorem q404 : (Jvm.Cond.code ({ cls := "java/util/ArrayList", name := "toArray", desc := "()[Ljava/lang/Object;" } : Jvm.MethodName) prog_25_method_16_code (1 : Nat) (Option.some (Jvm.ClassFile.FieldType.array (Jvm.ClassFile.FieldType.object "java/lang/Object")))) ∈ lw_all := lw_g (lw_at lw_m2 86 rfl) rfl
theorem q405 : (Jvm.Cond.interfaceEntry "java/util/ArrayList" (52 : Nat)) ∈ lw_tbl := lw_at lw_m2 87 rfl
theorem q406 : (Jvm.Cond.methodLink "java/util/ArrayList" (52 : Nat) ({ cls := "java/util/Collection", name := "getClass", desc := "()Ljava/lang/Class;" } : Jvm.MethodName)) ∈ lw_all := lw_g (lw_at lw_m2 88 rfl) rfl
theorem q409 : (Jvm.Cond.unhidden "java/util/ArrayList" "getClass" "()Ljava/lang/Class;") ∈ lw_tbl := lw_at lw_m2 91 rfl
theorem q411 : (Jvm.Cond.classLink "java/util/ArrayList" (10 : Nat) "java/util/ArrayList") ∈ lw_all := lw_g (lw_at lw_m2 93 rfl) rfl
theorem q412 : (Jvm.Cond.classLink "java/util/ArrayList" (56 : Nat) "[Ljava/lang/Object;") ∈ lw_all := lw_g (lw_at lw_m2 94 rfl) rfl
theorem q413 : (Jvm.Cond.methodLink "java/util/ArrayList" (57 : Nat) ({ cls := "java/util/Arrays", name := "copyOf", desc := "([Ljava/lang/Object;ILjava/lang/Class;)[Ljava/lang/Object;" } : Jvm.MethodName)) ∈ lw_all := lw_g (lw_at lw_m2 95 rfl) rfl
theorem q414 : (Jvm.Cond.fieldLink "java/util/ArrayList" (15 : Nat) "java/util/ArrayList" "EMPTY_ELEMENTDATA" "[Ljava/lang/Object;") ∈ lw_all := lw_g (lw_at lw_m2 96 rfl) rfl
theorem q415 : (Jvm.Cond.laysStatic "java/util/ArrayList" "EMPTY_ELEMENTDATA" "[Ljava/lang/Object;") ∈ lw_tbl := lw_at lw_m2 97 rfl
theorem q453 : (Jvm.Cond.instanceMethod ({ cls := "java/util/ArrayList", name := "add", desc := "(ILjava/lang/Object;)V" } : Jvm.MethodName)) ∈ lw_all := lw_g (lw_at lw_m2 135 rfl) rfl
theorem q454 : (Jvm.Cond.selects "java/util/ArrayList" ({ cls := "java/util/ArrayList", name := "add", desc := "(ILjava/lang/Object;)V" } : Jvm.MethodName) ({ cls := "java/util/ArrayList", name := "add", desc := "(ILjava/lang/Object;)V" } : Jvm.MethodName)) ∈ lw_all := lw_g (lw_at lw_m2 136 rfl) rfl
theorem q455 : (Jvm.Cond.code ({ cls := "java/util/ArrayList", name := "add", desc := "(ILjava/lang/Object;)V" } : Jvm.MethodName) prog_25_method_26_code (5 : Nat) (Option.none : Option Jvm.ClassFile.FieldType)) ∈ lw_all := lw_g (lw_at lw_m2 137 rfl) rfl
theorem q456 : (Jvm.Cond.methodLink "java/util/ArrayList" (135 : Nat) ({ cls := "java/util/ArrayList", name := "rangeCheckForAdd", desc := "(I)V" } : Jvm.MethodName)) ∈ lw_all := lw_g (lw_at lw_m2 138 rfl) rfl
theorem q457 : (Jvm.Cond.privateMethod ({ cls := "java/util/ArrayList", name := "rangeCheckForAdd", desc := "(I)V" } : Jvm.MethodName)) ∈ lw_tbl := lw_at lw_m2 139 rfl
theorem q458 : (Jvm.Cond.instanceMethod ({ cls := "java/util/ArrayList", name := "rangeCheckForAdd", desc := "(I)V" } : Jvm.MethodName)) ∈ lw_all := lw_g (lw_at lw_m2 140 rfl) rfl
theorem q459 : (Jvm.Cond.code ({ cls := "java/util/ArrayList", name := "rangeCheckForAdd", desc := "(I)V" } : Jvm.MethodName) prog_25_method_45_code (2 : Nat) (Option.none : Option Jvm.ClassFile.FieldType)) ∈ lw_all := lw_g (lw_at lw_m2 141 rfl) rfl
theorem q460 : (Jvm.Cond.methodLink "java/util/ArrayList" (112 : Nat) ({ cls := "java/lang/System", name := "arraycopy", desc := "(Ljava/lang/Object;ILjava/lang/Object;II)V" } : Jvm.MethodName)) ∈ lw_all := lw_g (lw_at lw_m2 142 rfl) rfl
theorem q473 : (Jvm.Cond.instanceMethod ({ cls := "java/util/ArrayList", name := "remove", desc := "(I)Ljava/lang/Object;" } : Jvm.MethodName)) ∈ lw_all := lw_g (lw_at lw_m2 155 rfl) rfl
theorem q474 : (Jvm.Cond.selects "java/util/ArrayList" ({ cls := "java/util/ArrayList", name := "remove", desc := "(I)Ljava/lang/Object;" } : Jvm.MethodName) ({ cls := "java/util/ArrayList", name := "remove", desc := "(I)Ljava/lang/Object;" } : Jvm.MethodName)) ∈ lw_all := lw_g (lw_at lw_m2 156 rfl) rfl
theorem q475 : (Jvm.Cond.code ({ cls := "java/util/ArrayList", name := "remove", desc := "(I)Ljava/lang/Object;" } : Jvm.MethodName) prog_25_method_29_code (4 : Nat) (Option.some (Jvm.ClassFile.FieldType.object "java/lang/Object"))) ∈ lw_all := lw_g (lw_at lw_m2 157 rfl) rfl
theorem q476 : (Jvm.Cond.methodLink "java/util/ArrayList" (144 : Nat) ({ cls := "java/util/ArrayList", name := "fastRemove", desc := "([Ljava/lang/Object;I)V" } : Jvm.MethodName)) ∈ lw_all := lw_g (lw_at lw_m2 158 rfl) rfl
theorem q477 : (Jvm.Cond.privateMethod ({ cls := "java/util/ArrayList", name := "fastRemove", desc := "([Ljava/lang/Object;I)V" } : Jvm.MethodName)) ∈ lw_tbl := lw_at lw_m2 159 rfl
theorem q478 : (Jvm.Cond.instanceMethod ({ cls := "java/util/ArrayList", name := "fastRemove", desc := "([Ljava/lang/Object;I)V" } : Jvm.MethodName)) ∈ lw_all := lw_g (lw_at lw_m2 160 rfl) rfl
theorem q479 : (Jvm.Cond.code ({ cls := "java/util/ArrayList", name := "fastRemove", desc := "([Ljava/lang/Object;I)V" } : Jvm.MethodName) prog_25_method_39_code (4 : Nat) (Option.none : Option Jvm.ClassFile.FieldType)) ∈ lw_all := lw_g (lw_at lw_m2 161 rfl) rfl
theorem q517 : (Jvm.Cond.instanceMethod ({ cls := "java/util/ArrayList", name := "set", desc := "(ILjava/lang/Object;)Ljava/lang/Object;" } : Jvm.MethodName)) ∈ lw_all := lw_g (lw_at lw_m2 199 rfl) rfl
theorem q518 : (Jvm.Cond.selects "java/util/ArrayList" ({ cls := "java/util/ArrayList", name := "set", desc := "(ILjava/lang/Object;)Ljava/lang/Object;" } : Jvm.MethodName) ({ cls := "java/util/ArrayList", name := "set", desc := "(ILjava/lang/Object;)Ljava/lang/Object;" } : Jvm.MethodName)) ∈ lw_all := lw_g (lw_at lw_m2 200 rfl) rfl
theorem q519 : (Jvm.Cond.code ({ cls := "java/util/ArrayList", name := "set", desc := "(ILjava/lang/Object;)Ljava/lang/Object;" } : Jvm.MethodName) prog_25_method_23_code (4 : Nat) (Option.some (Jvm.ClassFile.FieldType.object "java/lang/Object"))) ∈ lw_all := lw_g (lw_at lw_m2 201 rfl) rfl
theorem q665 : (Jvm.Cond.instanceMethod ({ cls := "java/util/ArrayList", name := "<init>", desc := "(I)V" } : Jvm.MethodName)) ∈ lw_all := lw_g (lw_at lw_m3 107 rfl) rfl
theorem q666 : (Jvm.Cond.code ({ cls := "java/util/ArrayList", name := "<init>", desc := "(I)V" } : Jvm.MethodName) prog_25_method_1_code (2 : Nat) (Option.none : Option Jvm.ClassFile.FieldType)) ∈ lw_all := lw_g (lw_at lw_m3 108 rfl) rfl
theorem q828 : (Jvm.Cond.instanceMethod ({ cls := "java/util/ArrayList", name := "isEmpty", desc := "()Z" } : Jvm.MethodName)) ∈ lw_all := lw_g (lw_at lw_m4 30 rfl) rfl
theorem q829 : (Jvm.Cond.selects "java/util/ArrayList" ({ cls := "java/util/ArrayList", name := "isEmpty", desc := "()Z" } : Jvm.MethodName) ({ cls := "java/util/ArrayList", name := "isEmpty", desc := "()Z" } : Jvm.MethodName)) ∈ lw_all := lw_g (lw_at lw_m4 31 rfl) rfl
theorem q830 : (Jvm.Cond.code ({ cls := "java/util/ArrayList", name := "isEmpty", desc := "()Z" } : Jvm.MethodName) prog_25_method_9_code (1 : Nat) (Option.some Jvm.ClassFile.FieldType.boolean)) ∈ lw_all := lw_g (lw_at lw_m4 32 rfl) rfl
theorem q1582 : (Jvm.Cond.castable "java/util/ArrayList" "java/lang/Object") ∈ lw_tbl := lw_at lw_m7 64 rfl
theorem in_J2 : ∀ w ∈ wsJ20, w ∈ lw_all := lw_in wsJ20 [135, 131, 133] (by decide +kernel) (by decide +kernel)

/-! TileOfficeModel -/
def RX1 : String := "TileOfficeModel"
def TX1 : u_T := fun k => match k with
  | 0 => ("TileOfficeModel", "kEdges", "[I", true)
  | 1 => ("TileOfficeModel", "kTurns", "[I", true)
  | 2 => ("TileOfficeModel", "kCost", "[I", true)
  | 3 => ("TileOfficeModel", "kMirrors", "[Z", true)
  | 4 => ("TileOfficeModel", "kName", "[J", true)
  | 5 => ("TileOfficeModel", "kinds", "I", false)
  | 6 => ("TileOfficeModel", "rLength", "[I", true)
  | 7 => ("TileOfficeModel", "rOffset", "[I", true)
  | 8 => ("TileOfficeModel", "rCells", "[I", true)
  | 9 => ("TileOfficeModel", "made", "I", false)
  | 10 => ("TileOfficeModel", "pRows", "[I", true)
  | 11 => ("TileOfficeModel", "pMany", "[I", true)
  | 12 => ("TileOfficeModel", "patterns", "I", false)
  | 13 => ("TileOfficeModel", "uPattern", "[I", true)
  | 14 => ("TileOfficeModel", "uMany", "[I", true)
  | 15 => ("TileOfficeModel", "uRows", "[I", true)
  | 16 => ("TileOfficeModel", "undos", "I", false)
  | 17 => ("TileOfficeModel", "undoAt", "I", false)
  | 18 => ("TileOfficeModel", "fromI", "I", false)
  | 19 => ("TileOfficeModel", "fromJ", "I", false)
  | 20 => ("TileOfficeModel", "gCells", "[I", true)
  | 21 => ("TileOfficeModel", "gOther", "[I", true)
  | 22 => ("TileOfficeModel", "gIs", "[Z", true)
  | 23 => ("TileOfficeModel", "gOtherIs", "[Z", true)
  | 24 => ("TileOfficeModel", "gRows", "I", false)
  | 25 => ("TileOfficeModel", "gCols", "I", false)
  | 26 => ("TileOfficeModel", "uSizeR", "[I", true)
  | 27 => ("TileOfficeModel", "uSizeC", "[I", true)
  | 28 => ("TileOfficeModel", "uBlock", "[I", true)
  | 29 => ("TileOfficeModel", "rules", "I", false)
  | 30 => ("TileOfficeModel", "wCells", "[I", true)
  | 31 => ("TileOfficeModel", "wLength", "[I", true)
  | 32 => ("TileOfficeModel", "wOffset", "[I", true)
  | 33 => ("TileOfficeModel", "now", "[J", true)
  | 34 => ("TileOfficeModel", "then", "[J", true)
  | 35 => ("TileOfficeModel", "fRows", "[I", true)
  | 36 => ("TileOfficeModel", "fCols", "[I", true)
  | 37 => ("TileOfficeModel", "fTold", "[I", true)
  | 38 => ("TileOfficeModel", "fLies", "[I", true)
  | 39 => ("TileOfficeModel", "fStock", "[I", true)
  | 40 => ("TileOfficeModel", "floors", "I", false)
  | 41 => ("TileOfficeModel", "life", "I", false)
  | 42 => ("TileOfficeModel", "its", "I", false)
  | 43 => ("TileOfficeModel", "opens", "I", false)
  | 44 => ("TileOfficeModel", "lying", "[I", true)
  | 45 => ("TileOfficeModel", "left", "[I", true)
  | 46 => ("TileOfficeModel", "open", "[I", true)
  | 47 => ("TileOfficeModel", "dPlace", "[I", true)
  | 48 => ("TileOfficeModel", "dTried", "[I", true)
  | 49 => ("TileOfficeModel", "depth", "I", false)
  | 50 => ("TileOfficeModel", "steps", "I", false)
  | 51 => ("TileOfficeModel", "found", "I", false)
  | 52 => ("TileOfficeModel", "cost", "I", false)
  | 53 => ("TileOfficeModel", "best", "I", false)
  | _ => ("TileOfficeModel", "isOut", "Z", false)
def tyX1 : Nat → FieldType := fun k => match k with
  | 0 => .array .int
  | 1 => .array .int
  | 2 => .array .int
  | 3 => .array .boolean
  | 4 => .array .long
  | 5 => .int
  | 6 => .array .int
  | 7 => .array .int
  | 8 => .array .int
  | 9 => .int
  | 10 => .array .int
  | 11 => .array .int
  | 12 => .int
  | 13 => .array .int
  | 14 => .array .int
  | 15 => .array .int
  | 16 => .int
  | 17 => .int
  | 18 => .int
  | 19 => .int
  | 20 => .array .int
  | 21 => .array .int
  | 22 => .array .boolean
  | 23 => .array .boolean
  | 24 => .int
  | 25 => .int
  | 26 => .array .int
  | 27 => .array .int
  | 28 => .array .int
  | 29 => .int
  | 30 => .array .int
  | 31 => .array .int
  | 32 => .array .int
  | 33 => .array .long
  | 34 => .array .long
  | 35 => .array .int
  | 36 => .array .int
  | 37 => .array .int
  | 38 => .array .int
  | 39 => .array .int
  | 40 => .int
  | 41 => .int
  | 42 => .int
  | 43 => .int
  | 44 => .array .int
  | 45 => .array .int
  | 46 => .array .int
  | 47 => .array .int
  | 48 => .array .int
  | 49 => .int
  | 50 => .int
  | 51 => .int
  | 52 => .int
  | 53 => .int
  | _ => .boolean
abbrev wsX10 : List Cond := u_ws RX1 TX1 55
theorem nmX1 : ∀ a, a < 55 → ∀ b, b < 55 → a ≠ b → (TX1 a).2.1 ≠ (TX1 b).2.1 := by decide +kernel
theorem tyX1_ok : ∀ k, k < 55 → parseFieldDescriptor (TX1 k).2.2.1 = some (tyX1 k) := by decide +kernel
abbrev cX1_init : ByteArray := prog_12_method_1_code
def yX1_init : MethodName := ⟨RX1, "<init>", "()V"⟩
abbrev cX1_kind : ByteArray := prog_12_method_3_code
def yX1_kind : MethodName := ⟨RX1, "kind", "(IIZIJ)I"⟩
abbrev cX1_plain : ByteArray := prog_12_method_2_code
def yX1_plain : MethodName := ⟨RX1, "plain", "(J)J"⟩
abbrev cX1_named : ByteArray := prog_12_method_4_code
def yX1_named : MethodName := ⟨RX1, "named", "(J)I"⟩
abbrev cX1_then : ByteArray := prog_12_method_9_code
def yX1_then : MethodName := ⟨RX1, "then", "(II)I"⟩
abbrev cX1_isMove : ByteArray := prog_12_method_5_code
def yX1_isMove : MethodName := ⟨RX1, "isMove", "(I)Z"⟩
abbrev cX1_thenMove : ByteArray := prog_12_method_8_code
def yX1_thenMove : MethodName := ⟨RX1, "thenMove", "(II)I"⟩
abbrev cX1_edge : ByteArray := prog_12_method_11_code
def yX1_edge : MethodName := ⟨RX1, "edge", "(III)I"⟩
abbrev cX1_isKind : ByteArray := prog_12_method_6_code
def yX1_isKind : MethodName := ⟨RX1, "isKind", "(I)Z"⟩
abbrev cX1_lies : ByteArray := prog_12_method_7_code
def yX1_lies : MethodName := ⟨RX1, "lies", "(II)I"⟩
abbrev cX1_colour : ByteArray := prog_12_method_10_code
def yX1_colour : MethodName := ⟨RX1, "colour", "(III)I"⟩
abbrev cX1_undo : ByteArray := prog_12_method_25_code
def yX1_undo : MethodName := ⟨RX1, "undo", "()I"⟩
abbrev cX1_pattern : ByteArray := prog_12_method_26_code
def yX1_pattern : MethodName := ⟨RX1, "pattern", "()I"⟩
abbrev cX1_insert : ByteArray := prog_12_method_27_code
def yX1_insert : MethodName := ⟨RX1, "insert", "(IIII)Z"⟩
abbrev cX1_isPattern : ByteArray := prog_12_method_18_code
def yX1_isPattern : MethodName := ⟨RX1, "isPattern", "(I)Z"⟩
abbrev cX1_keep : ByteArray := prog_12_method_24_code
def yX1_keep : MethodName := ⟨RX1, "keep", "(I)V"⟩
abbrev cX1_rowOf : ByteArray := prog_12_method_19_code
def yX1_rowOf : MethodName := ⟨RX1, "rowOf", "(II)I"⟩
abbrev cX1_newRow : ByteArray := prog_12_method_20_code
def yX1_newRow : MethodName := ⟨RX1, "newRow", "(II)I"⟩
abbrev cX1_remove : ByteArray := prog_12_method_29_code
def yX1_remove : MethodName := ⟨RX1, "remove", "(II)Z"⟩
abbrev cX1_takeRow : ByteArray := prog_12_method_28_code
def yX1_takeRow : MethodName := ⟨RX1, "takeRow", "(II)V"⟩
abbrev cX1_move : ByteArray := prog_12_method_30_code
def yX1_move : MethodName := ⟨RX1, "move", "(III)Z"⟩
abbrev cX1_put : ByteArray := prog_12_method_33_code
def yX1_put : MethodName := ⟨RX1, "put", "(IIIII)Z"⟩
abbrev cX1_has : ByteArray := prog_12_method_21_code
def yX1_has : MethodName := ⟨RX1, "has", "(IJJ)Z"⟩
abbrev cX1_cell : ByteArray := prog_12_method_12_code
def yX1_cell : MethodName := ⟨RX1, "cell", "(III)I"⟩
abbrev cX1_sets : ByteArray := prog_12_method_32_code
def yX1_sets : MethodName := ⟨RX1, "sets", "(IIII)Z"⟩
abbrev cX1_own : ByteArray := prog_12_method_31_code
def yX1_own : MethodName := ⟨RX1, "own", "(II)V"⟩
abbrev cX1_placeOf : ByteArray := prog_12_method_22_code
def yX1_placeOf : MethodName := ⟨RX1, "placeOf", "(III)I"⟩
abbrev cX1_shade : ByteArray := prog_12_method_34_code
def yX1_shade : MethodName := ⟨RX1, "shade", "(IIII)Z"⟩
abbrev cX1_cellAt : ByteArray := prog_12_method_23_code
def yX1_cellAt : MethodName := ⟨RX1, "cellAt", "(III)I"⟩
abbrev cX1_kindOf : ByteArray := prog_12_method_13_code
def yX1_kindOf : MethodName := ⟨RX1, "kindOf", "(I)I"⟩
abbrev cX1_moveOf : ByteArray := prog_12_method_14_code
def yX1_moveOf : MethodName := ⟨RX1, "moveOf", "(I)I"⟩
abbrev cX1_at : ByteArray := prog_12_method_35_code
def yX1_at : MethodName := ⟨RX1, "at", "(IIII)I"⟩
abbrev cX1_shadeOf : ByteArray := prog_12_method_15_code
def yX1_shadeOf : MethodName := ⟨RX1, "shadeOf", "(I)I"⟩
abbrev cX1_row : ByteArray := prog_12_method_36_code
def yX1_row : MethodName := ⟨RX1, "row", "(III)I"⟩
abbrev cX1_shares : ByteArray := prog_12_method_37_code
def yX1_shares : MethodName := ⟨RX1, "shares", "(IIII)Z"⟩
abbrev cX1_copy : ByteArray := prog_12_method_38_code
def yX1_copy : MethodName := ⟨RX1, "copy", "(I)I"⟩
abbrev cX1_region : ByteArray := prog_12_method_40_code
def yX1_region : MethodName := ⟨RX1, "region", "(IIIII)I"⟩
abbrev cX1_turn : ByteArray := prog_12_method_41_code
def yX1_turn : MethodName := ⟨RX1, "turn", "(I)Z"⟩
abbrev cX1_comesFrom : ByteArray := prog_12_method_39_code
def yX1_comesFrom : MethodName := ⟨RX1, "comesFrom", "(IIIII)V"⟩
abbrev cX1_moved : ByteArray := prog_12_method_16_code
def yX1_moved : MethodName := ⟨RX1, "moved", "(II)I"⟩
abbrev cX1_paste : ByteArray := prog_12_method_42_code
def yX1_paste : MethodName := ⟨RX1, "paste", "(III)I"⟩
abbrev cX1_comes : ByteArray := prog_12_method_43_code
def yX1_comes : MethodName := ⟨RX1, "comes", "(IIII)I"⟩
abbrev cX1_rule : ByteArray := prog_12_method_45_code
def yX1_rule : MethodName := ⟨RX1, "rule", "(II)I"⟩
abbrev cX1_becomes : ByteArray := prog_12_method_46_code
def yX1_becomes : MethodName := ⟨RX1, "becomes", "(IIIIII)Z"⟩
abbrev cX1_isRule : ByteArray := prog_12_method_44_code
def yX1_isRule : MethodName := ⟨RX1, "isRule", "(I)Z"⟩
abbrev cX1_grow : ByteArray := prog_12_method_47_code
def yX1_grow : MethodName := ⟨RX1, "grow", "(III)I"⟩
abbrev cX1_grown : ByteArray := prog_12_method_48_code
def yX1_grown : MethodName := ⟨RX1, "grown", "(III)Z"⟩
abbrev cX1_block : ByteArray := prog_12_method_49_code
def yX1_block : MethodName := ⟨RX1, "block", "(IIII)I"⟩
abbrev cX1_foretold : ByteArray := prog_12_method_51_code
def yX1_foretold : MethodName := ⟨RX1, "foretold", "(IIII)J"⟩
abbrev cX1_sum : ByteArray := prog_12_method_50_code
def yX1_sum : MethodName := ⟨RX1, "sum", "(JJ)J"⟩
abbrev cX1_count : ByteArray := prog_12_method_52_code
def yX1_count : MethodName := ⟨RX1, "count", "(II)I"⟩
abbrev cX1_fits : ByteArray := prog_12_method_53_code
def yX1_fits : MethodName := ⟨RX1, "fits", "(I)I"⟩
abbrev cX1_fit : ByteArray := prog_12_method_17_code
def yX1_fit : MethodName := ⟨RX1, "fit", "(III)Z"⟩
abbrev cX1_period : ByteArray := prog_12_method_54_code
def yX1_period : MethodName := ⟨RX1, "period", "(II)I"⟩
abbrev cX1_comesAgain : ByteArray := prog_12_method_55_code
def yX1_comesAgain : MethodName := ⟨RX1, "comesAgain", "(III)Z"⟩
abbrev cX1_kept : ByteArray := prog_12_method_60_code
def yX1_kept : MethodName := ⟨RX1, "kept", "(I)I"⟩
abbrev cX1_isFull : ByteArray := prog_12_method_56_code
def yX1_isFull : MethodName := ⟨RX1, "isFull", "(I)Z"⟩
abbrev cX1_isMoved : ByteArray := prog_12_method_59_code
def yX1_isMoved : MethodName := ⟨RX1, "isMoved", "(III)Z"⟩
abbrev cX1_wide : ByteArray := prog_12_method_57_code
def yX1_wide : MethodName := ⟨RX1, "wide", "(I)I"⟩
abbrev cX1_movedCell : ByteArray := prog_12_method_58_code
def yX1_movedCell : MethodName := ⟨RX1, "movedCell", "(IIII)I"⟩
abbrev cX1_congruent : ByteArray := prog_12_method_61_code
def yX1_congruent : MethodName := ⟨RX1, "congruent", "(II)I"⟩
abbrev cX1_find : ByteArray := prog_12_method_63_code
def yX1_find : MethodName := ⟨RX1, "find", "(III)I"⟩
abbrev cX1_isFound : ByteArray := prog_12_method_62_code
def yX1_isFound : MethodName := ⟨RX1, "isFound", "(IIIII)Z"⟩
abbrev cX1_floor : ByteArray := prog_12_method_65_code
def yX1_floor : MethodName := ⟨RX1, "floor", "(II)I"⟩
abbrev cX1_place : ByteArray := prog_12_method_67_code
def yX1_place : MethodName := ⟨RX1, "place", "(IIIII)Z"⟩
abbrev cX1_isPlace : ByteArray := prog_12_method_66_code
def yX1_isPlace : MethodName := ⟨RX1, "isPlace", "(III)Z"⟩
abbrev cX1_isFloor : ByteArray := prog_12_method_64_code
def yX1_isFloor : MethodName := ⟨RX1, "isFloor", "(I)Z"⟩
abbrev cX1_stock : ByteArray := prog_12_method_68_code
def yX1_stock : MethodName := ⟨RX1, "stock", "(III)Z"⟩
abbrev cX1_shown : ByteArray := prog_12_method_69_code
def yX1_shown : MethodName := ⟨RX1, "shown", "(III)I"⟩
abbrev cX1_fill : ByteArray := prog_12_method_81_code
def yX1_fill : MethodName := ⟨RX1, "fill", "(I)I"⟩
abbrev cX1_starts : ByteArray := prog_12_method_74_code
def yX1_starts : MethodName := ⟨RX1, "starts", "(I)Z"⟩
abbrev cX1_mayLie : ByteArray := prog_12_method_71_code
def yX1_mayLie : MethodName := ⟨RX1, "mayLie", "(II)Z"⟩
abbrev cX1_lyingAt : ByteArray := prog_12_method_70_code
def yX1_lyingAt : MethodName := ⟨RX1, "lyingAt", "(II)I"⟩
abbrev cX1_search : ByteArray := prog_12_method_80_code
def yX1_search : MethodName := ⟨RX1, "search", "(IZ)V"⟩
abbrev cX1_leastCost : ByteArray := prog_12_method_79_code
def yX1_leastCost : MethodName := ⟨RX1, "leastCost", "()I"⟩
abbrev cX1_nextPlace : ByteArray := prog_12_method_76_code
def yX1_nextPlace : MethodName := ⟨RX1, "nextPlace", "()I"⟩
abbrev cX1_fitting : ByteArray := prog_12_method_73_code
def yX1_fitting : MethodName := ⟨RX1, "fitting", "(I)I"⟩
abbrev cX1_nextFitting : ByteArray := prog_12_method_72_code
def yX1_nextFitting : MethodName := ⟨RX1, "nextFitting", "(II)I"⟩
abbrev cX1_show : ByteArray := prog_12_method_75_code
def yX1_show : MethodName := ⟨RX1, "show", "()V"⟩
abbrev cX1_takeBack : ByteArray := prog_12_method_78_code
def yX1_takeBack : MethodName := ⟨RX1, "takeBack", "(I)V"⟩
abbrev cX1_lay : ByteArray := prog_12_method_77_code
def yX1_lay : MethodName := ⟨RX1, "lay", "(II)V"⟩
abbrev cX1_fills : ByteArray := prog_12_method_82_code
def yX1_fills : MethodName := ⟨RX1, "fills", "(II)I"⟩
abbrev cX1_cheapest : ByteArray := prog_12_method_83_code
def yX1_cheapest : MethodName := ⟨RX1, "cheapest", "(I)I"⟩
abbrev cX1_forced : ByteArray := prog_12_method_84_code
def yX1_forced : MethodName := ⟨RX1, "forced", "(I)I"⟩
abbrev cX1_about : ByteArray := prog_12_method_85_code
def yX1_about : MethodName := ⟨RX1, "about", "(I)I"⟩
theorem q83 : (Jvm.Cond.initialized "TileOfficeModel") ∈ lw_all := lw_g (lw_at lw_m1 5 rfl) rfl
theorem q297 : (Jvm.Cond.selects "TileOfficeModel" ({ cls := "java/lang/Object", name := "getClass", desc := "()Ljava/lang/Class;" } : Jvm.MethodName) ({ cls := "java/lang/Object", name := "getClass", desc := "()Ljava/lang/Class;" } : Jvm.MethodName)) ∈ lw_all := lw_g (lw_at lw_m1 219 rfl) rfl
theorem q1066 : (Jvm.Cond.instantiable "TileOfficeModel" (55 : Nat)) ∈ lw_all := lw_g (lw_at lw_m5 28 rfl) rfl
theorem q1068 : (Jvm.Cond.instanceMethod ({ cls := "TileOfficeModel", name := "<init>", desc := "()V" } : Jvm.MethodName)) ∈ lw_all := lw_g (lw_at lw_m5 30 rfl) rfl
theorem q1069 : (Jvm.Cond.code ({ cls := "TileOfficeModel", name := "<init>", desc := "()V" } : Jvm.MethodName) prog_12_method_1_code (1 : Nat) (Option.none : Option Jvm.ClassFile.FieldType)) ∈ lw_all := lw_g (lw_at lw_m5 31 rfl) rfl
theorem q1070 : (Jvm.Cond.methodLink "TileOfficeModel" (1 : Nat) ({ cls := "java/lang/Object", name := "<init>", desc := "()V" } : Jvm.MethodName)) ∈ lw_all := lw_g (lw_at lw_m5 32 rfl) rfl
theorem q1071 : (Jvm.Cond.constant "TileOfficeModel" (33 : Nat) (360000 : Int32)) ∈ lw_all := lw_g (lw_at lw_m5 33 rfl) rfl
theorem q1072 : (Jvm.Cond.fieldLink "TileOfficeModel" (7 : Nat) "TileOfficeModel" "kEdges" "[I") ∈ lw_all := lw_g (lw_at lw_m5 34 rfl) rfl
theorem q1073 : (Jvm.Cond.fieldLink "TileOfficeModel" (13 : Nat) "TileOfficeModel" "kTurns" "[I") ∈ lw_all := lw_g (lw_at lw_m5 35 rfl) rfl
theorem q1074 : (Jvm.Cond.fieldLink "TileOfficeModel" (16 : Nat) "TileOfficeModel" "kCost" "[I") ∈ lw_all := lw_g (lw_at lw_m5 36 rfl) rfl
theorem q1075 : (Jvm.Cond.fieldLink "TileOfficeModel" (19 : Nat) "TileOfficeModel" "kMirrors" "[Z") ∈ lw_all := lw_g (lw_at lw_m5 37 rfl) rfl
theorem q1076 : (Jvm.Cond.fieldLink "TileOfficeModel" (23 : Nat) "TileOfficeModel" "kName" "[J") ∈ lw_all := lw_g (lw_at lw_m5 38 rfl) rfl
theorem q1077 : (Jvm.Cond.fieldLink "TileOfficeModel" (128 : Nat) "TileOfficeModel" "kinds" "I") ∈ lw_all := lw_g (lw_at lw_m5 39 rfl) rfl
theorem q1078 : (Jvm.Cond.fieldLink "TileOfficeModel" (27 : Nat) "TileOfficeModel" "rLength" "[I") ∈ lw_all := lw_g (lw_at lw_m5 40 rfl) rfl
theorem q1079 : (Jvm.Cond.fieldLink "TileOfficeModel" (30 : Nat) "TileOfficeModel" "rOffset" "[I") ∈ lw_all := lw_g (lw_at lw_m5 41 rfl) rfl
theorem q1080 : (Jvm.Cond.fieldLink "TileOfficeModel" (34 : Nat) "TileOfficeModel" "rCells" "[I") ∈ lw_all := lw_g (lw_at lw_m5 42 rfl) rfl
theorem q1081 : (Jvm.Cond.fieldLink "TileOfficeModel" (172 : Nat) "TileOfficeModel" "made" "I") ∈ lw_all := lw_g (lw_at lw_m5 43 rfl) rfl
theorem q1082 : (Jvm.Cond.fieldLink "TileOfficeModel" (37 : Nat) "TileOfficeModel" "pRows" "[I") ∈ lw_all := lw_g (lw_at lw_m5 44 rfl) rfl
theorem q1083 : (Jvm.Cond.fieldLink "TileOfficeModel" (40 : Nat) "TileOfficeModel" "pMany" "[I") ∈ lw_all := lw_g (lw_at lw_m5 45 rfl) rfl
theorem q1084 : (Jvm.Cond.fieldLink "TileOfficeModel" (169 : Nat) "TileOfficeModel" "patterns" "I") ∈ lw_all := lw_g (lw_at lw_m5 46 rfl) rfl
theorem q1085 : (Jvm.Cond.fieldLink "TileOfficeModel" (43 : Nat) "TileOfficeModel" "uPattern" "[I") ∈ lw_all := lw_g (lw_at lw_m5 47 rfl) rfl
theorem q1086 : (Jvm.Cond.fieldLink "TileOfficeModel" (46 : Nat) "TileOfficeModel" "uMany" "[I") ∈ lw_all := lw_g (lw_at lw_m5 48 rfl) rfl
theorem q1087 : (Jvm.Cond.fieldLink "TileOfficeModel" (49 : Nat) "TileOfficeModel" "uRows" "[I") ∈ lw_all := lw_g (lw_at lw_m5 49 rfl) rfl
theorem q1088 : (Jvm.Cond.fieldLink "TileOfficeModel" (184 : Nat) "TileOfficeModel" "undos" "I") ∈ lw_all := lw_g (lw_at lw_m5 50 rfl) rfl
theorem q1089 : (Jvm.Cond.fieldLink "TileOfficeModel" (181 : Nat) "TileOfficeModel" "undoAt" "I") ∈ lw_all := lw_g (lw_at lw_m5 51 rfl) rfl
theorem q1090 : (Jvm.Cond.fieldLink "TileOfficeModel" (215 : Nat) "TileOfficeModel" "fromI" "I") ∈ lw_all := lw_g (lw_at lw_m5 52 rfl) rfl
theorem q1091 : (Jvm.Cond.fieldLink "TileOfficeModel" (218 : Nat) "TileOfficeModel" "fromJ" "I") ∈ lw_all := lw_g (lw_at lw_m5 53 rfl) rfl
theorem q1092 : (Jvm.Cond.fieldLink "TileOfficeModel" (52 : Nat) "TileOfficeModel" "gCells" "[I") ∈ lw_all := lw_g (lw_at lw_m5 54 rfl) rfl
theorem q1093 : (Jvm.Cond.fieldLink "TileOfficeModel" (55 : Nat) "TileOfficeModel" "gOther" "[I") ∈ lw_all := lw_g (lw_at lw_m5 55 rfl) rfl
theorem q1094 : (Jvm.Cond.fieldLink "TileOfficeModel" (58 : Nat) "TileOfficeModel" "gIs" "[Z") ∈ lw_all := lw_g (lw_at lw_m5 56 rfl) rfl
theorem q1095 : (Jvm.Cond.fieldLink "TileOfficeModel" (61 : Nat) "TileOfficeModel" "gOtherIs" "[Z") ∈ lw_all := lw_g (lw_at lw_m5 57 rfl) rfl
theorem q1096 : (Jvm.Cond.fieldLink "TileOfficeModel" (221 : Nat) "TileOfficeModel" "gRows" "I") ∈ lw_all := lw_g (lw_at lw_m5 58 rfl) rfl
theorem q1097 : (Jvm.Cond.fieldLink "TileOfficeModel" (224 : Nat) "TileOfficeModel" "gCols" "I") ∈ lw_all := lw_g (lw_at lw_m5 59 rfl) rfl
theorem q1098 : (Jvm.Cond.fieldLink "TileOfficeModel" (64 : Nat) "TileOfficeModel" "uSizeR" "[I") ∈ lw_all := lw_g (lw_at lw_m5 60 rfl) rfl
theorem q1099 : (Jvm.Cond.fieldLink "TileOfficeModel" (67 : Nat) "TileOfficeModel" "uSizeC" "[I") ∈ lw_all := lw_g (lw_at lw_m5 61 rfl) rfl
theorem q1100 : (Jvm.Cond.fieldLink "TileOfficeModel" (70 : Nat) "TileOfficeModel" "uBlock" "[I") ∈ lw_all := lw_g (lw_at lw_m5 62 rfl) rfl
theorem q1101 : (Jvm.Cond.fieldLink "TileOfficeModel" (238 : Nat) "TileOfficeModel" "rules" "I") ∈ lw_all := lw_g (lw_at lw_m5 63 rfl) rfl
theorem q1102 : (Jvm.Cond.fieldLink "TileOfficeModel" (73 : Nat) "TileOfficeModel" "wCells" "[I") ∈ lw_all := lw_g (lw_at lw_m5 64 rfl) rfl
theorem q1103 : (Jvm.Cond.fieldLink "TileOfficeModel" (76 : Nat) "TileOfficeModel" "wLength" "[I") ∈ lw_all := lw_g (lw_at lw_m5 65 rfl) rfl
theorem q1104 : (Jvm.Cond.fieldLink "TileOfficeModel" (79 : Nat) "TileOfficeModel" "wOffset" "[I") ∈ lw_all := lw_g (lw_at lw_m5 66 rfl) rfl
theorem q1105 : (Jvm.Cond.fieldLink "TileOfficeModel" (82 : Nat) "TileOfficeModel" "now" "[J") ∈ lw_all := lw_g (lw_at lw_m5 67 rfl) rfl
theorem q1106 : (Jvm.Cond.fieldLink "TileOfficeModel" (85 : Nat) "TileOfficeModel" "then" "[J") ∈ lw_all := lw_g (lw_at lw_m5 68 rfl) rfl
theorem q1107 : (Jvm.Cond.fieldLink "TileOfficeModel" (88 : Nat) "TileOfficeModel" "fRows" "[I") ∈ lw_all := lw_g (lw_at lw_m5 69 rfl) rfl
theorem q1108 : (Jvm.Cond.fieldLink "TileOfficeModel" (91 : Nat) "TileOfficeModel" "fCols" "[I") ∈ lw_all := lw_g (lw_at lw_m5 70 rfl) rfl
theorem q1109 : (Jvm.Cond.fieldLink "TileOfficeModel" (94 : Nat) "TileOfficeModel" "fTold" "[I") ∈ lw_all := lw_g (lw_at lw_m5 71 rfl) rfl
theorem q1110 : (Jvm.Cond.fieldLink "TileOfficeModel" (97 : Nat) "TileOfficeModel" "fLies" "[I") ∈ lw_all := lw_g (lw_at lw_m5 72 rfl) rfl
theorem q1111 : (Jvm.Cond.fieldLink "TileOfficeModel" (100 : Nat) "TileOfficeModel" "fStock" "[I") ∈ lw_all := lw_g (lw_at lw_m5 73 rfl) rfl
theorem q1112 : (Jvm.Cond.fieldLink "TileOfficeModel" (285 : Nat) "TileOfficeModel" "floors" "I") ∈ lw_all := lw_g (lw_at lw_m5 74 rfl) rfl
theorem q1113 : (Jvm.Cond.fieldLink "TileOfficeModel" (344 : Nat) "TileOfficeModel" "life" "I") ∈ lw_all := lw_g (lw_at lw_m5 75 rfl) rfl
theorem q1114 : (Jvm.Cond.fieldLink "TileOfficeModel" (294 : Nat) "TileOfficeModel" "its" "I") ∈ lw_all := lw_g (lw_at lw_m5 76 rfl) rfl
theorem q1115 : (Jvm.Cond.fieldLink "TileOfficeModel" (307 : Nat) "TileOfficeModel" "opens" "I") ∈ lw_all := lw_g (lw_at lw_m5 77 rfl) rfl
theorem q1116 : (Jvm.Cond.fieldLink "TileOfficeModel" (103 : Nat) "TileOfficeModel" "lying" "[I") ∈ lw_all := lw_g (lw_at lw_m5 78 rfl) rfl
theorem q1117 : (Jvm.Cond.fieldLink "TileOfficeModel" (106 : Nat) "TileOfficeModel" "left" "[I") ∈ lw_all := lw_g (lw_at lw_m5 79 rfl) rfl
theorem q1118 : (Jvm.Cond.fieldLink "TileOfficeModel" (109 : Nat) "TileOfficeModel" "open" "[I") ∈ lw_all := lw_g (lw_at lw_m5 80 rfl) rfl
theorem q1119 : (Jvm.Cond.fieldLink "TileOfficeModel" (112 : Nat) "TileOfficeModel" "dPlace" "[I") ∈ lw_all := lw_g (lw_at lw_m5 81 rfl) rfl
theorem q1120 : (Jvm.Cond.fieldLink "TileOfficeModel" (115 : Nat) "TileOfficeModel" "dTried" "[I") ∈ lw_all := lw_g (lw_at lw_m5 82 rfl) rfl
theorem q1121 : (Jvm.Cond.fieldLink "TileOfficeModel" (329 : Nat) "TileOfficeModel" "depth" "I") ∈ lw_all := lw_g (lw_at lw_m5 83 rfl) rfl
theorem q1122 : (Jvm.Cond.fieldLink "TileOfficeModel" (316 : Nat) "TileOfficeModel" "steps" "I") ∈ lw_all := lw_g (lw_at lw_m5 84 rfl) rfl
theorem q1123 : (Jvm.Cond.fieldLink "TileOfficeModel" (319 : Nat) "TileOfficeModel" "found" "I") ∈ lw_all := lw_g (lw_at lw_m5 85 rfl) rfl
theorem q1124 : (Jvm.Cond.fieldLink "TileOfficeModel" (313 : Nat) "TileOfficeModel" "cost" "I") ∈ lw_all := lw_g (lw_at lw_m5 86 rfl) rfl
theorem q1125 : (Jvm.Cond.fieldLink "TileOfficeModel" (322 : Nat) "TileOfficeModel" "best" "I") ∈ lw_all := lw_g (lw_at lw_m5 87 rfl) rfl
theorem q1126 : (Jvm.Cond.fieldLink "TileOfficeModel" (325 : Nat) "TileOfficeModel" "isOut" "Z") ∈ lw_all := lw_g (lw_at lw_m5 88 rfl) rfl
theorem q1127 : (Jvm.Cond.laysFinal "TileOfficeModel" "TileOfficeModel" "kEdges" "[I") ∈ lw_all := lw_g (lw_at lw_m5 89 rfl) rfl
theorem q1128 : (Jvm.Cond.soleField "TileOfficeModel" "kEdges") ∈ lw_all := lw_g (lw_at lw_m5 90 rfl) rfl
theorem q1129 : (Jvm.Cond.laysFinal "TileOfficeModel" "TileOfficeModel" "kTurns" "[I") ∈ lw_all := lw_g (lw_at lw_m5 91 rfl) rfl
theorem q1130 : (Jvm.Cond.soleField "TileOfficeModel" "kTurns") ∈ lw_all := lw_g (lw_at lw_m5 92 rfl) rfl
theorem q1131 : (Jvm.Cond.laysFinal "TileOfficeModel" "TileOfficeModel" "kCost" "[I") ∈ lw_all := lw_g (lw_at lw_m5 93 rfl) rfl
theorem q1132 : (Jvm.Cond.soleField "TileOfficeModel" "kCost") ∈ lw_all := lw_g (lw_at lw_m5 94 rfl) rfl
theorem q1133 : (Jvm.Cond.laysFinal "TileOfficeModel" "TileOfficeModel" "kMirrors" "[Z") ∈ lw_all := lw_g (lw_at lw_m5 95 rfl) rfl
theorem q1134 : (Jvm.Cond.soleField "TileOfficeModel" "kMirrors") ∈ lw_all := lw_g (lw_at lw_m5 96 rfl) rfl
theorem q1135 : (Jvm.Cond.laysFinal "TileOfficeModel" "TileOfficeModel" "kName" "[J") ∈ lw_all := lw_g (lw_at lw_m5 97 rfl) rfl
theorem q1136 : (Jvm.Cond.soleField "TileOfficeModel" "kName") ∈ lw_all := lw_g (lw_at lw_m5 98 rfl) rfl
theorem q1137 : (Jvm.Cond.lays "TileOfficeModel" "TileOfficeModel" "kinds" "I") ∈ lw_all := lw_g (lw_at lw_m5 99 rfl) rfl
theorem q1138 : (Jvm.Cond.soleField "TileOfficeModel" "kinds") ∈ lw_all := lw_g (lw_at lw_m5 100 rfl) rfl
theorem q1139 : (Jvm.Cond.laysFinal "TileOfficeModel" "TileOfficeModel" "rLength" "[I") ∈ lw_all := lw_g (lw_at lw_m5 101 rfl) rfl
theorem q1140 : (Jvm.Cond.soleField "TileOfficeModel" "rLength") ∈ lw_all := lw_g (lw_at lw_m5 102 rfl) rfl
theorem q1141 : (Jvm.Cond.laysFinal "TileOfficeModel" "TileOfficeModel" "rOffset" "[I") ∈ lw_all := lw_g (lw_at lw_m5 103 rfl) rfl
theorem q1142 : (Jvm.Cond.soleField "TileOfficeModel" "rOffset") ∈ lw_all := lw_g (lw_at lw_m5 104 rfl) rfl
theorem q1143 : (Jvm.Cond.laysFinal "TileOfficeModel" "TileOfficeModel" "rCells" "[I") ∈ lw_all := lw_g (lw_at lw_m5 105 rfl) rfl
theorem q1144 : (Jvm.Cond.soleField "TileOfficeModel" "rCells") ∈ lw_all := lw_g (lw_at lw_m5 106 rfl) rfl
theorem q1145 : (Jvm.Cond.lays "TileOfficeModel" "TileOfficeModel" "made" "I") ∈ lw_all := lw_g (lw_at lw_m5 107 rfl) rfl
theorem q1146 : (Jvm.Cond.soleField "TileOfficeModel" "made") ∈ lw_all := lw_g (lw_at lw_m5 108 rfl) rfl
theorem q1147 : (Jvm.Cond.laysFinal "TileOfficeModel" "TileOfficeModel" "pRows" "[I") ∈ lw_all := lw_g (lw_at lw_m5 109 rfl) rfl
theorem q1148 : (Jvm.Cond.soleField "TileOfficeModel" "pRows") ∈ lw_all := lw_g (lw_at lw_m5 110 rfl) rfl
theorem q1149 : (Jvm.Cond.laysFinal "TileOfficeModel" "TileOfficeModel" "pMany" "[I") ∈ lw_all := lw_g (lw_at lw_m5 111 rfl) rfl
theorem q1150 : (Jvm.Cond.soleField "TileOfficeModel" "pMany") ∈ lw_all := lw_g (lw_at lw_m5 112 rfl) rfl
theorem q1151 : (Jvm.Cond.lays "TileOfficeModel" "TileOfficeModel" "patterns" "I") ∈ lw_all := lw_g (lw_at lw_m5 113 rfl) rfl
theorem q1152 : (Jvm.Cond.soleField "TileOfficeModel" "patterns") ∈ lw_all := lw_g (lw_at lw_m5 114 rfl) rfl
theorem q1153 : (Jvm.Cond.laysFinal "TileOfficeModel" "TileOfficeModel" "uPattern" "[I") ∈ lw_all := lw_g (lw_at lw_m5 115 rfl) rfl
theorem q1154 : (Jvm.Cond.soleField "TileOfficeModel" "uPattern") ∈ lw_all := lw_g (lw_at lw_m5 116 rfl) rfl
theorem q1155 : (Jvm.Cond.laysFinal "TileOfficeModel" "TileOfficeModel" "uMany" "[I") ∈ lw_all := lw_g (lw_at lw_m5 117 rfl) rfl
theorem q1156 : (Jvm.Cond.soleField "TileOfficeModel" "uMany") ∈ lw_all := lw_g (lw_at lw_m5 118 rfl) rfl
theorem q1157 : (Jvm.Cond.laysFinal "TileOfficeModel" "TileOfficeModel" "uRows" "[I") ∈ lw_all := lw_g (lw_at lw_m5 119 rfl) rfl
theorem q1158 : (Jvm.Cond.soleField "TileOfficeModel" "uRows") ∈ lw_all := lw_g (lw_at lw_m5 120 rfl) rfl
theorem q1159 : (Jvm.Cond.lays "TileOfficeModel" "TileOfficeModel" "undos" "I") ∈ lw_all := lw_g (lw_at lw_m5 121 rfl) rfl
theorem q1160 : (Jvm.Cond.soleField "TileOfficeModel" "undos") ∈ lw_all := lw_g (lw_at lw_m5 122 rfl) rfl
theorem q1161 : (Jvm.Cond.lays "TileOfficeModel" "TileOfficeModel" "undoAt" "I") ∈ lw_all := lw_g (lw_at lw_m5 123 rfl) rfl
theorem q1162 : (Jvm.Cond.soleField "TileOfficeModel" "undoAt") ∈ lw_all := lw_g (lw_at lw_m5 124 rfl) rfl
theorem q1163 : (Jvm.Cond.lays "TileOfficeModel" "TileOfficeModel" "fromI" "I") ∈ lw_all := lw_g (lw_at lw_m5 125 rfl) rfl
theorem q1164 : (Jvm.Cond.soleField "TileOfficeModel" "fromI") ∈ lw_all := lw_g (lw_at lw_m5 126 rfl) rfl
theorem q1165 : (Jvm.Cond.lays "TileOfficeModel" "TileOfficeModel" "fromJ" "I") ∈ lw_all := lw_g (lw_at lw_m5 127 rfl) rfl
theorem q1166 : (Jvm.Cond.soleField "TileOfficeModel" "fromJ") ∈ lw_all := lw_g (lw_at lw_m5 128 rfl) rfl
theorem q1167 : (Jvm.Cond.laysFinal "TileOfficeModel" "TileOfficeModel" "gCells" "[I") ∈ lw_all := lw_g (lw_at lw_m5 129 rfl) rfl
theorem q1168 : (Jvm.Cond.soleField "TileOfficeModel" "gCells") ∈ lw_all := lw_g (lw_at lw_m5 130 rfl) rfl
theorem q1169 : (Jvm.Cond.laysFinal "TileOfficeModel" "TileOfficeModel" "gOther" "[I") ∈ lw_all := lw_g (lw_at lw_m5 131 rfl) rfl
theorem q1170 : (Jvm.Cond.soleField "TileOfficeModel" "gOther") ∈ lw_all := lw_g (lw_at lw_m5 132 rfl) rfl
theorem q1171 : (Jvm.Cond.laysFinal "TileOfficeModel" "TileOfficeModel" "gIs" "[Z") ∈ lw_all := lw_g (lw_at lw_m5 133 rfl) rfl
theorem q1172 : (Jvm.Cond.soleField "TileOfficeModel" "gIs") ∈ lw_all := lw_g (lw_at lw_m5 134 rfl) rfl
theorem q1173 : (Jvm.Cond.laysFinal "TileOfficeModel" "TileOfficeModel" "gOtherIs" "[Z") ∈ lw_all := lw_g (lw_at lw_m5 135 rfl) rfl
theorem q1174 : (Jvm.Cond.soleField "TileOfficeModel" "gOtherIs") ∈ lw_all := lw_g (lw_at lw_m5 136 rfl) rfl
theorem q1175 : (Jvm.Cond.lays "TileOfficeModel" "TileOfficeModel" "gRows" "I") ∈ lw_all := lw_g (lw_at lw_m5 137 rfl) rfl
theorem q1176 : (Jvm.Cond.soleField "TileOfficeModel" "gRows") ∈ lw_all := lw_g (lw_at lw_m5 138 rfl) rfl
theorem q1177 : (Jvm.Cond.lays "TileOfficeModel" "TileOfficeModel" "gCols" "I") ∈ lw_all := lw_g (lw_at lw_m5 139 rfl) rfl
theorem q1178 : (Jvm.Cond.soleField "TileOfficeModel" "gCols") ∈ lw_all := lw_g (lw_at lw_m5 140 rfl) rfl
theorem q1179 : (Jvm.Cond.laysFinal "TileOfficeModel" "TileOfficeModel" "uSizeR" "[I") ∈ lw_all := lw_g (lw_at lw_m5 141 rfl) rfl
theorem q1180 : (Jvm.Cond.soleField "TileOfficeModel" "uSizeR") ∈ lw_all := lw_g (lw_at lw_m5 142 rfl) rfl
theorem q1181 : (Jvm.Cond.laysFinal "TileOfficeModel" "TileOfficeModel" "uSizeC" "[I") ∈ lw_all := lw_g (lw_at lw_m5 143 rfl) rfl
theorem q1182 : (Jvm.Cond.soleField "TileOfficeModel" "uSizeC") ∈ lw_all := lw_g (lw_at lw_m5 144 rfl) rfl
theorem q1183 : (Jvm.Cond.laysFinal "TileOfficeModel" "TileOfficeModel" "uBlock" "[I") ∈ lw_all := lw_g (lw_at lw_m5 145 rfl) rfl
theorem q1184 : (Jvm.Cond.soleField "TileOfficeModel" "uBlock") ∈ lw_all := lw_g (lw_at lw_m5 146 rfl) rfl
theorem q1185 : (Jvm.Cond.lays "TileOfficeModel" "TileOfficeModel" "rules" "I") ∈ lw_all := lw_g (lw_at lw_m5 147 rfl) rfl
theorem q1186 : (Jvm.Cond.soleField "TileOfficeModel" "rules") ∈ lw_all := lw_g (lw_at lw_m5 148 rfl) rfl
theorem q1187 : (Jvm.Cond.laysFinal "TileOfficeModel" "TileOfficeModel" "wCells" "[I") ∈ lw_all := lw_g (lw_at lw_m5 149 rfl) rfl
theorem q1188 : (Jvm.Cond.soleField "TileOfficeModel" "wCells") ∈ lw_all := lw_g (lw_at lw_m5 150 rfl) rfl
theorem q1189 : (Jvm.Cond.laysFinal "TileOfficeModel" "TileOfficeModel" "wLength" "[I") ∈ lw_all := lw_g (lw_at lw_m5 151 rfl) rfl
theorem q1190 : (Jvm.Cond.soleField "TileOfficeModel" "wLength") ∈ lw_all := lw_g (lw_at lw_m5 152 rfl) rfl
theorem q1191 : (Jvm.Cond.laysFinal "TileOfficeModel" "TileOfficeModel" "wOffset" "[I") ∈ lw_all := lw_g (lw_at lw_m5 153 rfl) rfl
theorem q1192 : (Jvm.Cond.soleField "TileOfficeModel" "wOffset") ∈ lw_all := lw_g (lw_at lw_m5 154 rfl) rfl
theorem q1193 : (Jvm.Cond.laysFinal "TileOfficeModel" "TileOfficeModel" "now" "[J") ∈ lw_all := lw_g (lw_at lw_m5 155 rfl) rfl
theorem q1194 : (Jvm.Cond.soleField "TileOfficeModel" "now") ∈ lw_all := lw_g (lw_at lw_m5 156 rfl) rfl
theorem q1195 : (Jvm.Cond.laysFinal "TileOfficeModel" "TileOfficeModel" "then" "[J") ∈ lw_all := lw_g (lw_at lw_m5 157 rfl) rfl
theorem q1196 : (Jvm.Cond.soleField "TileOfficeModel" "then") ∈ lw_all := lw_g (lw_at lw_m5 158 rfl) rfl
theorem q1197 : (Jvm.Cond.laysFinal "TileOfficeModel" "TileOfficeModel" "fRows" "[I") ∈ lw_all := lw_g (lw_at lw_m5 159 rfl) rfl
theorem q1198 : (Jvm.Cond.soleField "TileOfficeModel" "fRows") ∈ lw_all := lw_g (lw_at lw_m5 160 rfl) rfl
theorem q1199 : (Jvm.Cond.laysFinal "TileOfficeModel" "TileOfficeModel" "fCols" "[I") ∈ lw_all := lw_g (lw_at lw_m5 161 rfl) rfl
theorem q1200 : (Jvm.Cond.soleField "TileOfficeModel" "fCols") ∈ lw_all := lw_g (lw_at lw_m5 162 rfl) rfl
theorem q1201 : (Jvm.Cond.laysFinal "TileOfficeModel" "TileOfficeModel" "fTold" "[I") ∈ lw_all := lw_g (lw_at lw_m5 163 rfl) rfl
theorem q1202 : (Jvm.Cond.soleField "TileOfficeModel" "fTold") ∈ lw_all := lw_g (lw_at lw_m5 164 rfl) rfl
theorem q1203 : (Jvm.Cond.laysFinal "TileOfficeModel" "TileOfficeModel" "fLies" "[I") ∈ lw_all := lw_g (lw_at lw_m5 165 rfl) rfl
theorem q1204 : (Jvm.Cond.soleField "TileOfficeModel" "fLies") ∈ lw_all := lw_g (lw_at lw_m5 166 rfl) rfl
theorem q1205 : (Jvm.Cond.laysFinal "TileOfficeModel" "TileOfficeModel" "fStock" "[I") ∈ lw_all := lw_g (lw_at lw_m5 167 rfl) rfl
theorem q1206 : (Jvm.Cond.soleField "TileOfficeModel" "fStock") ∈ lw_all := lw_g (lw_at lw_m5 168 rfl) rfl
theorem q1207 : (Jvm.Cond.lays "TileOfficeModel" "TileOfficeModel" "floors" "I") ∈ lw_all := lw_g (lw_at lw_m5 169 rfl) rfl
theorem q1208 : (Jvm.Cond.soleField "TileOfficeModel" "floors") ∈ lw_all := lw_g (lw_at lw_m5 170 rfl) rfl
theorem q1209 : (Jvm.Cond.lays "TileOfficeModel" "TileOfficeModel" "life" "I") ∈ lw_all := lw_g (lw_at lw_m5 171 rfl) rfl
theorem q1210 : (Jvm.Cond.soleField "TileOfficeModel" "life") ∈ lw_all := lw_g (lw_at lw_m5 172 rfl) rfl
theorem q1211 : (Jvm.Cond.lays "TileOfficeModel" "TileOfficeModel" "its" "I") ∈ lw_all := lw_g (lw_at lw_m5 173 rfl) rfl
theorem q1212 : (Jvm.Cond.soleField "TileOfficeModel" "its") ∈ lw_all := lw_g (lw_at lw_m5 174 rfl) rfl
theorem q1213 : (Jvm.Cond.lays "TileOfficeModel" "TileOfficeModel" "opens" "I") ∈ lw_all := lw_g (lw_at lw_m5 175 rfl) rfl
theorem q1214 : (Jvm.Cond.soleField "TileOfficeModel" "opens") ∈ lw_all := lw_g (lw_at lw_m5 176 rfl) rfl
theorem q1215 : (Jvm.Cond.laysFinal "TileOfficeModel" "TileOfficeModel" "lying" "[I") ∈ lw_all := lw_g (lw_at lw_m5 177 rfl) rfl
theorem q1216 : (Jvm.Cond.soleField "TileOfficeModel" "lying") ∈ lw_all := lw_g (lw_at lw_m5 178 rfl) rfl
theorem q1217 : (Jvm.Cond.laysFinal "TileOfficeModel" "TileOfficeModel" "left" "[I") ∈ lw_all := lw_g (lw_at lw_m5 179 rfl) rfl
theorem q1218 : (Jvm.Cond.soleField "TileOfficeModel" "left") ∈ lw_all := lw_g (lw_at lw_m5 180 rfl) rfl
theorem q1219 : (Jvm.Cond.laysFinal "TileOfficeModel" "TileOfficeModel" "open" "[I") ∈ lw_all := lw_g (lw_at lw_m5 181 rfl) rfl
theorem q1220 : (Jvm.Cond.soleField "TileOfficeModel" "open") ∈ lw_all := lw_g (lw_at lw_m5 182 rfl) rfl
theorem q1221 : (Jvm.Cond.laysFinal "TileOfficeModel" "TileOfficeModel" "dPlace" "[I") ∈ lw_all := lw_g (lw_at lw_m5 183 rfl) rfl
theorem q1222 : (Jvm.Cond.soleField "TileOfficeModel" "dPlace") ∈ lw_all := lw_g (lw_at lw_m5 184 rfl) rfl
theorem q1223 : (Jvm.Cond.laysFinal "TileOfficeModel" "TileOfficeModel" "dTried" "[I") ∈ lw_all := lw_g (lw_at lw_m5 185 rfl) rfl
theorem q1224 : (Jvm.Cond.soleField "TileOfficeModel" "dTried") ∈ lw_all := lw_g (lw_at lw_m5 186 rfl) rfl
theorem q1225 : (Jvm.Cond.lays "TileOfficeModel" "TileOfficeModel" "depth" "I") ∈ lw_all := lw_g (lw_at lw_m5 187 rfl) rfl
theorem q1226 : (Jvm.Cond.soleField "TileOfficeModel" "depth") ∈ lw_all := lw_g (lw_at lw_m5 188 rfl) rfl
theorem q1227 : (Jvm.Cond.lays "TileOfficeModel" "TileOfficeModel" "steps" "I") ∈ lw_all := lw_g (lw_at lw_m5 189 rfl) rfl
theorem q1228 : (Jvm.Cond.soleField "TileOfficeModel" "steps") ∈ lw_all := lw_g (lw_at lw_m5 190 rfl) rfl
theorem q1229 : (Jvm.Cond.lays "TileOfficeModel" "TileOfficeModel" "found" "I") ∈ lw_all := lw_g (lw_at lw_m5 191 rfl) rfl
theorem q1230 : (Jvm.Cond.soleField "TileOfficeModel" "found") ∈ lw_all := lw_g (lw_at lw_m5 192 rfl) rfl
theorem q1231 : (Jvm.Cond.lays "TileOfficeModel" "TileOfficeModel" "cost" "I") ∈ lw_all := lw_g (lw_at lw_m5 193 rfl) rfl
theorem q1232 : (Jvm.Cond.soleField "TileOfficeModel" "cost") ∈ lw_all := lw_g (lw_at lw_m5 194 rfl) rfl
theorem q1233 : (Jvm.Cond.lays "TileOfficeModel" "TileOfficeModel" "best" "I") ∈ lw_all := lw_g (lw_at lw_m5 195 rfl) rfl
theorem q1234 : (Jvm.Cond.soleField "TileOfficeModel" "best") ∈ lw_all := lw_g (lw_at lw_m5 196 rfl) rfl
theorem q1235 : (Jvm.Cond.lays "TileOfficeModel" "TileOfficeModel" "isOut" "Z") ∈ lw_all := lw_g (lw_at lw_m5 197 rfl) rfl
theorem q1236 : (Jvm.Cond.soleField "TileOfficeModel" "isOut") ∈ lw_all := lw_g (lw_at lw_m5 198 rfl) rfl
theorem q1237 : (Jvm.Cond.superclass "TileOfficeModel" "java/lang/Object") ∈ lw_all := lw_g (lw_at lw_m5 199 rfl) rfl
theorem q1239 : (Jvm.Cond.instanceMethod ({ cls := "TileOfficeModel", name := "kind", desc := "(IIZIJ)I" } : Jvm.MethodName)) ∈ lw_all := lw_g (lw_at lw_m5 201 rfl) rfl
theorem q1240 : (Jvm.Cond.selects "TileOfficeModel" ({ cls := "TileOfficeModel", name := "kind", desc := "(IIZIJ)I" } : Jvm.MethodName) ({ cls := "TileOfficeModel", name := "kind", desc := "(IIZIJ)I" } : Jvm.MethodName)) ∈ lw_all := lw_g (lw_at lw_m5 202 rfl) rfl
theorem q1241 : (Jvm.Cond.code ({ cls := "TileOfficeModel", name := "kind", desc := "(IIZIJ)I" } : Jvm.MethodName) prog_12_method_3_code (11 : Nat) (Option.some Jvm.ClassFile.FieldType.int)) ∈ lw_all := lw_g (lw_at lw_m5 203 rfl) rfl
theorem q1242 : (Jvm.Cond.methodLink "TileOfficeModel" (124 : Nat) ({ cls := "TileOfficeModel", name := "plain", desc := "(J)J" } : Jvm.MethodName)) ∈ lw_all := lw_g (lw_at lw_m5 204 rfl) rfl
theorem q1243 : (Jvm.Cond.static ({ cls := "TileOfficeModel", name := "plain", desc := "(J)J" } : Jvm.MethodName)) ∈ lw_all := lw_g (lw_at lw_m5 205 rfl) rfl
theorem q1244 : (Jvm.Cond.code ({ cls := "TileOfficeModel", name := "plain", desc := "(J)J" } : Jvm.MethodName) prog_12_method_2_code (7 : Nat) (Option.some Jvm.ClassFile.FieldType.long)) ∈ lw_all := lw_g (lw_at lw_m5 206 rfl) rfl
theorem q1245 : (Jvm.Cond.constantLong "TileOfficeModel" (118 : Nat) (255 : Int64)) ∈ lw_all := lw_g (lw_at lw_m5 207 rfl) rfl
theorem q1246 : (Jvm.Cond.constantLong "TileOfficeModel" (120 : Nat) (97 : Int64)) ∈ lw_all := lw_g (lw_at lw_m5 208 rfl) rfl
theorem q1247 : (Jvm.Cond.constantLong "TileOfficeModel" (122 : Nat) (122 : Int64)) ∈ lw_all := lw_g (lw_at lw_m5 209 rfl) rfl
theorem q1248 : (Jvm.Cond.constant "TileOfficeModel" (132 : Nat) (-65536 : Int32)) ∈ lw_all := lw_g (lw_at lw_m5 210 rfl) rfl
theorem q1249 : (Jvm.Cond.methodLink "TileOfficeModel" (133 : Nat) ({ cls := "TileOfficeModel", name := "named", desc := "(J)I" } : Jvm.MethodName)) ∈ lw_all := lw_g (lw_at lw_m5 211 rfl) rfl
theorem q1250 : (Jvm.Cond.instanceMethod ({ cls := "TileOfficeModel", name := "named", desc := "(J)I" } : Jvm.MethodName)) ∈ lw_all := lw_g (lw_at lw_m5 212 rfl) rfl
theorem q1251 : (Jvm.Cond.selects "TileOfficeModel" ({ cls := "TileOfficeModel", name := "named", desc := "(J)I" } : Jvm.MethodName) ({ cls := "TileOfficeModel", name := "named", desc := "(J)I" } : Jvm.MethodName)) ∈ lw_all := lw_g (lw_at lw_m5 213 rfl) rfl
theorem q1252 : (Jvm.Cond.code ({ cls := "TileOfficeModel", name := "named", desc := "(J)I" } : Jvm.MethodName) prog_12_method_4_code (6 : Nat) (Option.some Jvm.ClassFile.FieldType.int)) ∈ lw_all := lw_g (lw_at lw_m5 214 rfl) rfl
theorem q1255 : (Jvm.Cond.instanceMethod ({ cls := "TileOfficeModel", name := "then", desc := "(II)I" } : Jvm.MethodName)) ∈ lw_all := lw_g (lw_at lw_m5 217 rfl) rfl
theorem q1256 : (Jvm.Cond.selects "TileOfficeModel" ({ cls := "TileOfficeModel", name := "then", desc := "(II)I" } : Jvm.MethodName) ({ cls := "TileOfficeModel", name := "then", desc := "(II)I" } : Jvm.MethodName)) ∈ lw_all := lw_g (lw_at lw_m5 218 rfl) rfl
theorem q1257 : (Jvm.Cond.code ({ cls := "TileOfficeModel", name := "then", desc := "(II)I" } : Jvm.MethodName) prog_12_method_9_code (3 : Nat) (Option.some Jvm.ClassFile.FieldType.int)) ∈ lw_all := lw_g (lw_at lw_m5 219 rfl) rfl
theorem q1258 : (Jvm.Cond.methodLink "TileOfficeModel" (137 : Nat) ({ cls := "TileOfficeModel", name := "isMove", desc := "(I)Z" } : Jvm.MethodName)) ∈ lw_all := lw_g (lw_at lw_m5 220 rfl) rfl
theorem q1259 : (Jvm.Cond.static ({ cls := "TileOfficeModel", name := "isMove", desc := "(I)Z" } : Jvm.MethodName)) ∈ lw_all := lw_g (lw_at lw_m5 221 rfl) rfl
theorem q1260 : (Jvm.Cond.code ({ cls := "TileOfficeModel", name := "isMove", desc := "(I)Z" } : Jvm.MethodName) prog_12_method_5_code (1 : Nat) (Option.some Jvm.ClassFile.FieldType.boolean)) ∈ lw_all := lw_g (lw_at lw_m5 222 rfl) rfl
theorem q1261 : (Jvm.Cond.methodLink "TileOfficeModel" (141 : Nat) ({ cls := "TileOfficeModel", name := "thenMove", desc := "(II)I" } : Jvm.MethodName)) ∈ lw_all := lw_g (lw_at lw_m5 223 rfl) rfl
theorem q1262 : (Jvm.Cond.static ({ cls := "TileOfficeModel", name := "thenMove", desc := "(II)I" } : Jvm.MethodName)) ∈ lw_all := lw_g (lw_at lw_m5 224 rfl) rfl
theorem q1263 : (Jvm.Cond.code ({ cls := "TileOfficeModel", name := "thenMove", desc := "(II)I" } : Jvm.MethodName) prog_12_method_8_code (2 : Nat) (Option.some Jvm.ClassFile.FieldType.int)) ∈ lw_all := lw_g (lw_at lw_m5 225 rfl) rfl
theorem q1265 : (Jvm.Cond.instanceMethod ({ cls := "TileOfficeModel", name := "edge", desc := "(III)I" } : Jvm.MethodName)) ∈ lw_all := lw_g (lw_at lw_m5 227 rfl) rfl
theorem q1266 : (Jvm.Cond.selects "TileOfficeModel" ({ cls := "TileOfficeModel", name := "edge", desc := "(III)I" } : Jvm.MethodName) ({ cls := "TileOfficeModel", name := "edge", desc := "(III)I" } : Jvm.MethodName)) ∈ lw_all := lw_g (lw_at lw_m5 228 rfl) rfl
theorem q1267 : (Jvm.Cond.code ({ cls := "TileOfficeModel", name := "edge", desc := "(III)I" } : Jvm.MethodName) prog_12_method_11_code (5 : Nat) (Option.some Jvm.ClassFile.FieldType.int)) ∈ lw_all := lw_g (lw_at lw_m5 229 rfl) rfl
theorem q1268 : (Jvm.Cond.methodLink "TileOfficeModel" (145 : Nat) ({ cls := "TileOfficeModel", name := "isKind", desc := "(I)Z" } : Jvm.MethodName)) ∈ lw_all := lw_g (lw_at lw_m5 230 rfl) rfl
theorem q1269 : (Jvm.Cond.privateMethod ({ cls := "TileOfficeModel", name := "isKind", desc := "(I)Z" } : Jvm.MethodName)) ∈ lw_tbl := lw_at lw_m5 231 rfl
theorem q1270 : (Jvm.Cond.instanceMethod ({ cls := "TileOfficeModel", name := "isKind", desc := "(I)Z" } : Jvm.MethodName)) ∈ lw_all := lw_g (lw_at lw_m5 232 rfl) rfl
theorem q1271 : (Jvm.Cond.code ({ cls := "TileOfficeModel", name := "isKind", desc := "(I)Z" } : Jvm.MethodName) prog_12_method_6_code (2 : Nat) (Option.some Jvm.ClassFile.FieldType.boolean)) ∈ lw_all := lw_g (lw_at lw_m5 233 rfl) rfl
theorem q1272 : (Jvm.Cond.methodLink "TileOfficeModel" (148 : Nat) ({ cls := "TileOfficeModel", name := "lies", desc := "(II)I" } : Jvm.MethodName)) ∈ lw_all := lw_g (lw_at lw_m5 234 rfl) rfl
theorem q1273 : (Jvm.Cond.privateMethod ({ cls := "TileOfficeModel", name := "lies", desc := "(II)I" } : Jvm.MethodName)) ∈ lw_tbl := lw_at lw_m5 235 rfl
theorem q1274 : (Jvm.Cond.instanceMethod ({ cls := "TileOfficeModel", name := "lies", desc := "(II)I" } : Jvm.MethodName)) ∈ lw_all := lw_g (lw_at lw_m5 236 rfl) rfl
theorem q1275 : (Jvm.Cond.code ({ cls := "TileOfficeModel", name := "lies", desc := "(II)I" } : Jvm.MethodName) prog_12_method_7_code (3 : Nat) (Option.some Jvm.ClassFile.FieldType.int)) ∈ lw_all := lw_g (lw_at lw_m5 237 rfl) rfl
theorem q1276 : (Jvm.Cond.methodLink "TileOfficeModel" (151 : Nat) ({ cls := "TileOfficeModel", name := "colour", desc := "(III)I" } : Jvm.MethodName)) ∈ lw_all := lw_g (lw_at lw_m5 238 rfl) rfl
theorem q1277 : (Jvm.Cond.privateMethod ({ cls := "TileOfficeModel", name := "colour", desc := "(III)I" } : Jvm.MethodName)) ∈ lw_tbl := lw_at lw_m5 239 rfl
theorem q1278 : (Jvm.Cond.instanceMethod ({ cls := "TileOfficeModel", name := "colour", desc := "(III)I" } : Jvm.MethodName)) ∈ lw_all := lw_g (lw_at lw_m6 0 rfl) rfl
theorem q1279 : (Jvm.Cond.code ({ cls := "TileOfficeModel", name := "colour", desc := "(III)I" } : Jvm.MethodName) prog_12_method_10_code (5 : Nat) (Option.some Jvm.ClassFile.FieldType.int)) ∈ lw_all := lw_g (lw_at lw_m6 1 rfl) rfl
theorem q1281 : (Jvm.Cond.instanceMethod ({ cls := "TileOfficeModel", name := "undo", desc := "()I" } : Jvm.MethodName)) ∈ lw_all := lw_g (lw_at lw_m6 3 rfl) rfl
theorem q1282 : (Jvm.Cond.selects "TileOfficeModel" ({ cls := "TileOfficeModel", name := "undo", desc := "()I" } : Jvm.MethodName) ({ cls := "TileOfficeModel", name := "undo", desc := "()I" } : Jvm.MethodName)) ∈ lw_all := lw_g (lw_at lw_m6 4 rfl) rfl
theorem q1283 : (Jvm.Cond.code ({ cls := "TileOfficeModel", name := "undo", desc := "()I" } : Jvm.MethodName) prog_12_method_25_code (3 : Nat) (Option.some Jvm.ClassFile.FieldType.int)) ∈ lw_all := lw_g (lw_at lw_m6 5 rfl) rfl
theorem q1285 : (Jvm.Cond.instanceMethod ({ cls := "TileOfficeModel", name := "pattern", desc := "()I" } : Jvm.MethodName)) ∈ lw_all := lw_g (lw_at lw_m6 7 rfl) rfl
theorem q1286 : (Jvm.Cond.selects "TileOfficeModel" ({ cls := "TileOfficeModel", name := "pattern", desc := "()I" } : Jvm.MethodName) ({ cls := "TileOfficeModel", name := "pattern", desc := "()I" } : Jvm.MethodName)) ∈ lw_all := lw_g (lw_at lw_m6 8 rfl) rfl
theorem q1287 : (Jvm.Cond.code ({ cls := "TileOfficeModel", name := "pattern", desc := "()I" } : Jvm.MethodName) prog_12_method_26_code (1 : Nat) (Option.some Jvm.ClassFile.FieldType.int)) ∈ lw_all := lw_g (lw_at lw_m6 9 rfl) rfl
theorem q1289 : (Jvm.Cond.instanceMethod ({ cls := "TileOfficeModel", name := "insert", desc := "(IIII)Z" } : Jvm.MethodName)) ∈ lw_all := lw_g (lw_at lw_m6 11 rfl) rfl
theorem q1290 : (Jvm.Cond.selects "TileOfficeModel" ({ cls := "TileOfficeModel", name := "insert", desc := "(IIII)Z" } : Jvm.MethodName) ({ cls := "TileOfficeModel", name := "insert", desc := "(IIII)Z" } : Jvm.MethodName)) ∈ lw_all := lw_g (lw_at lw_m6 12 rfl) rfl
theorem q1291 : (Jvm.Cond.code ({ cls := "TileOfficeModel", name := "insert", desc := "(IIII)Z" } : Jvm.MethodName) prog_12_method_27_code (6 : Nat) (Option.some Jvm.ClassFile.FieldType.boolean)) ∈ lw_all := lw_g (lw_at lw_m6 13 rfl) rfl
theorem q1292 : (Jvm.Cond.methodLink "TileOfficeModel" (187 : Nat) ({ cls := "TileOfficeModel", name := "isPattern", desc := "(I)Z" } : Jvm.MethodName)) ∈ lw_all := lw_g (lw_at lw_m6 14 rfl) rfl
theorem q1293 : (Jvm.Cond.privateMethod ({ cls := "TileOfficeModel", name := "isPattern", desc := "(I)Z" } : Jvm.MethodName)) ∈ lw_tbl := lw_at lw_m6 15 rfl
theorem q1294 : (Jvm.Cond.instanceMethod ({ cls := "TileOfficeModel", name := "isPattern", desc := "(I)Z" } : Jvm.MethodName)) ∈ lw_all := lw_g (lw_at lw_m6 16 rfl) rfl
theorem q1295 : (Jvm.Cond.code ({ cls := "TileOfficeModel", name := "isPattern", desc := "(I)Z" } : Jvm.MethodName) prog_12_method_18_code (2 : Nat) (Option.some Jvm.ClassFile.FieldType.boolean)) ∈ lw_all := lw_g (lw_at lw_m6 17 rfl) rfl
theorem q1296 : (Jvm.Cond.methodLink "TileOfficeModel" (190 : Nat) ({ cls := "TileOfficeModel", name := "keep", desc := "(I)V" } : Jvm.MethodName)) ∈ lw_all := lw_g (lw_at lw_m6 18 rfl) rfl
theorem q1297 : (Jvm.Cond.privateMethod ({ cls := "TileOfficeModel", name := "keep", desc := "(I)V" } : Jvm.MethodName)) ∈ lw_tbl := lw_at lw_m6 19 rfl
theorem q1298 : (Jvm.Cond.instanceMethod ({ cls := "TileOfficeModel", name := "keep", desc := "(I)V" } : Jvm.MethodName)) ∈ lw_all := lw_g (lw_at lw_m6 20 rfl) rfl
theorem q1299 : (Jvm.Cond.code ({ cls := "TileOfficeModel", name := "keep", desc := "(I)V" } : Jvm.MethodName) prog_12_method_24_code (3 : Nat) (Option.none : Option Jvm.ClassFile.FieldType)) ∈ lw_all := lw_g (lw_at lw_m6 21 rfl) rfl
theorem q1300 : (Jvm.Cond.methodLink "TileOfficeModel" (175 : Nat) ({ cls := "TileOfficeModel", name := "rowOf", desc := "(II)I" } : Jvm.MethodName)) ∈ lw_all := lw_g (lw_at lw_m6 22 rfl) rfl
theorem q1301 : (Jvm.Cond.privateMethod ({ cls := "TileOfficeModel", name := "rowOf", desc := "(II)I" } : Jvm.MethodName)) ∈ lw_tbl := lw_at lw_m6 23 rfl
theorem q1302 : (Jvm.Cond.instanceMethod ({ cls := "TileOfficeModel", name := "rowOf", desc := "(II)I" } : Jvm.MethodName)) ∈ lw_all := lw_g (lw_at lw_m6 24 rfl) rfl
theorem q1303 : (Jvm.Cond.code ({ cls := "TileOfficeModel", name := "rowOf", desc := "(II)I" } : Jvm.MethodName) prog_12_method_19_code (3 : Nat) (Option.some Jvm.ClassFile.FieldType.int)) ∈ lw_all := lw_g (lw_at lw_m6 25 rfl) rfl
theorem q1304 : (Jvm.Cond.methodLink "TileOfficeModel" (194 : Nat) ({ cls := "TileOfficeModel", name := "newRow", desc := "(II)I" } : Jvm.MethodName)) ∈ lw_all := lw_g (lw_at lw_m6 26 rfl) rfl
theorem q1305 : (Jvm.Cond.privateMethod ({ cls := "TileOfficeModel", name := "newRow", desc := "(II)I" } : Jvm.MethodName)) ∈ lw_tbl := lw_at lw_m6 27 rfl
theorem q1306 : (Jvm.Cond.instanceMethod ({ cls := "TileOfficeModel", name := "newRow", desc := "(II)I" } : Jvm.MethodName)) ∈ lw_all := lw_g (lw_at lw_m6 28 rfl) rfl
theorem q1307 : (Jvm.Cond.code ({ cls := "TileOfficeModel", name := "newRow", desc := "(II)I" } : Jvm.MethodName) prog_12_method_20_code (4 : Nat) (Option.some Jvm.ClassFile.FieldType.int)) ∈ lw_all := lw_g (lw_at lw_m6 29 rfl) rfl
theorem q1309 : (Jvm.Cond.instanceMethod ({ cls := "TileOfficeModel", name := "remove", desc := "(II)Z" } : Jvm.MethodName)) ∈ lw_all := lw_g (lw_at lw_m6 31 rfl) rfl
theorem q1310 : (Jvm.Cond.selects "TileOfficeModel" ({ cls := "TileOfficeModel", name := "remove", desc := "(II)Z" } : Jvm.MethodName) ({ cls := "TileOfficeModel", name := "remove", desc := "(II)Z" } : Jvm.MethodName)) ∈ lw_all := lw_g (lw_at lw_m6 32 rfl) rfl
theorem q1311 : (Jvm.Cond.code ({ cls := "TileOfficeModel", name := "remove", desc := "(II)Z" } : Jvm.MethodName) prog_12_method_29_code (3 : Nat) (Option.some Jvm.ClassFile.FieldType.boolean)) ∈ lw_all := lw_g (lw_at lw_m6 33 rfl) rfl
theorem q1312 : (Jvm.Cond.methodLink "TileOfficeModel" (197 : Nat) ({ cls := "TileOfficeModel", name := "takeRow", desc := "(II)V" } : Jvm.MethodName)) ∈ lw_all := lw_g (lw_at lw_m6 34 rfl) rfl
theorem q1313 : (Jvm.Cond.privateMethod ({ cls := "TileOfficeModel", name := "takeRow", desc := "(II)V" } : Jvm.MethodName)) ∈ lw_tbl := lw_at lw_m6 35 rfl
theorem q1314 : (Jvm.Cond.instanceMethod ({ cls := "TileOfficeModel", name := "takeRow", desc := "(II)V" } : Jvm.MethodName)) ∈ lw_all := lw_g (lw_at lw_m6 36 rfl) rfl
theorem q1315 : (Jvm.Cond.code ({ cls := "TileOfficeModel", name := "takeRow", desc := "(II)V" } : Jvm.MethodName) prog_12_method_28_code (4 : Nat) (Option.none : Option Jvm.ClassFile.FieldType)) ∈ lw_all := lw_g (lw_at lw_m6 37 rfl) rfl
theorem q1317 : (Jvm.Cond.instanceMethod ({ cls := "TileOfficeModel", name := "move", desc := "(III)Z" } : Jvm.MethodName)) ∈ lw_all := lw_g (lw_at lw_m6 39 rfl) rfl
theorem q1318 : (Jvm.Cond.selects "TileOfficeModel" ({ cls := "TileOfficeModel", name := "move", desc := "(III)Z" } : Jvm.MethodName) ({ cls := "TileOfficeModel", name := "move", desc := "(III)Z" } : Jvm.MethodName)) ∈ lw_all := lw_g (lw_at lw_m6 40 rfl) rfl
theorem q1319 : (Jvm.Cond.code ({ cls := "TileOfficeModel", name := "move", desc := "(III)Z" } : Jvm.MethodName) prog_12_method_30_code (6 : Nat) (Option.some Jvm.ClassFile.FieldType.boolean)) ∈ lw_all := lw_g (lw_at lw_m6 41 rfl) rfl
theorem q1321 : (Jvm.Cond.instanceMethod ({ cls := "TileOfficeModel", name := "put", desc := "(IIIII)Z" } : Jvm.MethodName)) ∈ lw_all := lw_g (lw_at lw_m6 43 rfl) rfl
theorem q1322 : (Jvm.Cond.selects "TileOfficeModel" ({ cls := "TileOfficeModel", name := "put", desc := "(IIIII)Z" } : Jvm.MethodName) ({ cls := "TileOfficeModel", name := "put", desc := "(IIIII)Z" } : Jvm.MethodName)) ∈ lw_all := lw_g (lw_at lw_m6 44 rfl) rfl
theorem q1323 : (Jvm.Cond.code ({ cls := "TileOfficeModel", name := "put", desc := "(IIIII)Z" } : Jvm.MethodName) prog_12_method_33_code (6 : Nat) (Option.some Jvm.ClassFile.FieldType.boolean)) ∈ lw_all := lw_g (lw_at lw_m6 45 rfl) rfl
theorem q1324 : (Jvm.Cond.methodLink "TileOfficeModel" (204 : Nat) ({ cls := "TileOfficeModel", name := "has", desc := "(IJJ)Z" } : Jvm.MethodName)) ∈ lw_all := lw_g (lw_at lw_m6 46 rfl) rfl
theorem q1325 : (Jvm.Cond.privateMethod ({ cls := "TileOfficeModel", name := "has", desc := "(IJJ)Z" } : Jvm.MethodName)) ∈ lw_tbl := lw_at lw_m6 47 rfl
theorem q1326 : (Jvm.Cond.instanceMethod ({ cls := "TileOfficeModel", name := "has", desc := "(IJJ)Z" } : Jvm.MethodName)) ∈ lw_all := lw_g (lw_at lw_m6 48 rfl) rfl
theorem q1327 : (Jvm.Cond.code ({ cls := "TileOfficeModel", name := "has", desc := "(IJJ)Z" } : Jvm.MethodName) prog_12_method_21_code (7 : Nat) (Option.some Jvm.ClassFile.FieldType.boolean)) ∈ lw_all := lw_g (lw_at lw_m6 49 rfl) rfl
theorem q1328 : (Jvm.Cond.methodLink "TileOfficeModel" (166 : Nat) ({ cls := "TileOfficeModel", name := "cell", desc := "(III)I" } : Jvm.MethodName)) ∈ lw_all := lw_g (lw_at lw_m6 50 rfl) rfl
theorem q1329 : (Jvm.Cond.static ({ cls := "TileOfficeModel", name := "cell", desc := "(III)I" } : Jvm.MethodName)) ∈ lw_all := lw_g (lw_at lw_m6 51 rfl) rfl
theorem q1330 : (Jvm.Cond.code ({ cls := "TileOfficeModel", name := "cell", desc := "(III)I" } : Jvm.MethodName) prog_12_method_12_code (3 : Nat) (Option.some Jvm.ClassFile.FieldType.int)) ∈ lw_all := lw_g (lw_at lw_m6 52 rfl) rfl
theorem q1331 : (Jvm.Cond.methodLink "TileOfficeModel" (208 : Nat) ({ cls := "TileOfficeModel", name := "sets", desc := "(IIII)Z" } : Jvm.MethodName)) ∈ lw_all := lw_g (lw_at lw_m6 53 rfl) rfl
theorem q1332 : (Jvm.Cond.privateMethod ({ cls := "TileOfficeModel", name := "sets", desc := "(IIII)Z" } : Jvm.MethodName)) ∈ lw_tbl := lw_at lw_m6 54 rfl
theorem q1333 : (Jvm.Cond.instanceMethod ({ cls := "TileOfficeModel", name := "sets", desc := "(IIII)Z" } : Jvm.MethodName)) ∈ lw_all := lw_g (lw_at lw_m6 55 rfl) rfl
theorem q1334 : (Jvm.Cond.code ({ cls := "TileOfficeModel", name := "sets", desc := "(IIII)Z" } : Jvm.MethodName) prog_12_method_32_code (5 : Nat) (Option.some Jvm.ClassFile.FieldType.boolean)) ∈ lw_all := lw_g (lw_at lw_m6 56 rfl) rfl
theorem q1335 : (Jvm.Cond.methodLink "TileOfficeModel" (201 : Nat) ({ cls := "TileOfficeModel", name := "own", desc := "(II)V" } : Jvm.MethodName)) ∈ lw_all := lw_g (lw_at lw_m6 57 rfl) rfl
theorem q1336 : (Jvm.Cond.privateMethod ({ cls := "TileOfficeModel", name := "own", desc := "(II)V" } : Jvm.MethodName)) ∈ lw_tbl := lw_at lw_m6 58 rfl
theorem q1337 : (Jvm.Cond.instanceMethod ({ cls := "TileOfficeModel", name := "own", desc := "(II)V" } : Jvm.MethodName)) ∈ lw_all := lw_g (lw_at lw_m6 59 rfl) rfl
theorem q1338 : (Jvm.Cond.code ({ cls := "TileOfficeModel", name := "own", desc := "(II)V" } : Jvm.MethodName) prog_12_method_31_code (6 : Nat) (Option.none : Option Jvm.ClassFile.FieldType)) ∈ lw_all := lw_g (lw_at lw_m6 60 rfl) rfl
theorem q1339 : (Jvm.Cond.methodLink "TileOfficeModel" (178 : Nat) ({ cls := "TileOfficeModel", name := "placeOf", desc := "(III)I" } : Jvm.MethodName)) ∈ lw_all := lw_g (lw_at lw_m6 61 rfl) rfl
theorem q1340 : (Jvm.Cond.privateMethod ({ cls := "TileOfficeModel", name := "placeOf", desc := "(III)I" } : Jvm.MethodName)) ∈ lw_tbl := lw_at lw_m6 62 rfl
theorem q1341 : (Jvm.Cond.instanceMethod ({ cls := "TileOfficeModel", name := "placeOf", desc := "(III)I" } : Jvm.MethodName)) ∈ lw_all := lw_g (lw_at lw_m6 63 rfl) rfl
theorem q1342 : (Jvm.Cond.code ({ cls := "TileOfficeModel", name := "placeOf", desc := "(III)I" } : Jvm.MethodName) prog_12_method_22_code (4 : Nat) (Option.some Jvm.ClassFile.FieldType.int)) ∈ lw_all := lw_g (lw_at lw_m6 64 rfl) rfl
theorem q1344 : (Jvm.Cond.instanceMethod ({ cls := "TileOfficeModel", name := "shade", desc := "(IIII)Z" } : Jvm.MethodName)) ∈ lw_all := lw_g (lw_at lw_m6 66 rfl) rfl
theorem q1345 : (Jvm.Cond.selects "TileOfficeModel" ({ cls := "TileOfficeModel", name := "shade", desc := "(IIII)Z" } : Jvm.MethodName) ({ cls := "TileOfficeModel", name := "shade", desc := "(IIII)Z" } : Jvm.MethodName)) ∈ lw_all := lw_g (lw_at lw_m6 67 rfl) rfl
theorem q1346 : (Jvm.Cond.code ({ cls := "TileOfficeModel", name := "shade", desc := "(IIII)Z" } : Jvm.MethodName) prog_12_method_34_code (6 : Nat) (Option.some Jvm.ClassFile.FieldType.boolean)) ∈ lw_all := lw_g (lw_at lw_m6 68 rfl) rfl
theorem q1347 : (Jvm.Cond.methodLink "TileOfficeModel" (212 : Nat) ({ cls := "TileOfficeModel", name := "cellAt", desc := "(III)I" } : Jvm.MethodName)) ∈ lw_all := lw_g (lw_at lw_m6 69 rfl) rfl
theorem q1348 : (Jvm.Cond.privateMethod ({ cls := "TileOfficeModel", name := "cellAt", desc := "(III)I" } : Jvm.MethodName)) ∈ lw_tbl := lw_at lw_m6 70 rfl
theorem q1349 : (Jvm.Cond.instanceMethod ({ cls := "TileOfficeModel", name := "cellAt", desc := "(III)I" } : Jvm.MethodName)) ∈ lw_all := lw_g (lw_at lw_m6 71 rfl) rfl
theorem q1350 : (Jvm.Cond.code ({ cls := "TileOfficeModel", name := "cellAt", desc := "(III)I" } : Jvm.MethodName) prog_12_method_23_code (4 : Nat) (Option.some Jvm.ClassFile.FieldType.int)) ∈ lw_all := lw_g (lw_at lw_m6 72 rfl) rfl
theorem q1351 : (Jvm.Cond.methodLink "TileOfficeModel" (156 : Nat) ({ cls := "TileOfficeModel", name := "kindOf", desc := "(I)I" } : Jvm.MethodName)) ∈ lw_all := lw_g (lw_at lw_m6 73 rfl) rfl
theorem q1352 : (Jvm.Cond.static ({ cls := "TileOfficeModel", name := "kindOf", desc := "(I)I" } : Jvm.MethodName)) ∈ lw_all := lw_g (lw_at lw_m6 74 rfl) rfl
theorem q1353 : (Jvm.Cond.code ({ cls := "TileOfficeModel", name := "kindOf", desc := "(I)I" } : Jvm.MethodName) prog_12_method_13_code (1 : Nat) (Option.some Jvm.ClassFile.FieldType.int)) ∈ lw_all := lw_g (lw_at lw_m6 75 rfl) rfl
theorem q1354 : (Jvm.Cond.constant "TileOfficeModel" (155 : Nat) (65535 : Int32)) ∈ lw_all := lw_g (lw_at lw_m6 76 rfl) rfl
theorem q1355 : (Jvm.Cond.methodLink "TileOfficeModel" (160 : Nat) ({ cls := "TileOfficeModel", name := "moveOf", desc := "(I)I" } : Jvm.MethodName)) ∈ lw_all := lw_g (lw_at lw_m6 77 rfl) rfl
theorem q1356 : (Jvm.Cond.static ({ cls := "TileOfficeModel", name := "moveOf", desc := "(I)I" } : Jvm.MethodName)) ∈ lw_all := lw_g (lw_at lw_m6 78 rfl) rfl
theorem q1357 : (Jvm.Cond.code ({ cls := "TileOfficeModel", name := "moveOf", desc := "(I)I" } : Jvm.MethodName) prog_12_method_14_code (1 : Nat) (Option.some Jvm.ClassFile.FieldType.int)) ∈ lw_all := lw_g (lw_at lw_m6 79 rfl) rfl
theorem q1359 : (Jvm.Cond.instanceMethod ({ cls := "TileOfficeModel", name := "at", desc := "(IIII)I" } : Jvm.MethodName)) ∈ lw_all := lw_g (lw_at lw_m6 81 rfl) rfl
theorem q1360 : (Jvm.Cond.selects "TileOfficeModel" ({ cls := "TileOfficeModel", name := "at", desc := "(IIII)I" } : Jvm.MethodName) ({ cls := "TileOfficeModel", name := "at", desc := "(IIII)I" } : Jvm.MethodName)) ∈ lw_all := lw_g (lw_at lw_m6 82 rfl) rfl
theorem q1361 : (Jvm.Cond.code ({ cls := "TileOfficeModel", name := "at", desc := "(IIII)I" } : Jvm.MethodName) prog_12_method_35_code (7 : Nat) (Option.some Jvm.ClassFile.FieldType.int)) ∈ lw_all := lw_g (lw_at lw_m6 83 rfl) rfl
theorem q1362 : (Jvm.Cond.methodLink "TileOfficeModel" (163 : Nat) ({ cls := "TileOfficeModel", name := "shadeOf", desc := "(I)I" } : Jvm.MethodName)) ∈ lw_all := lw_g (lw_at lw_m6 84 rfl) rfl
theorem q1363 : (Jvm.Cond.static ({ cls := "TileOfficeModel", name := "shadeOf", desc := "(I)I" } : Jvm.MethodName)) ∈ lw_all := lw_g (lw_at lw_m6 85 rfl) rfl
theorem q1364 : (Jvm.Cond.code ({ cls := "TileOfficeModel", name := "shadeOf", desc := "(I)I" } : Jvm.MethodName) prog_12_method_15_code (1 : Nat) (Option.some Jvm.ClassFile.FieldType.int)) ∈ lw_all := lw_g (lw_at lw_m6 86 rfl) rfl
theorem q1366 : (Jvm.Cond.instanceMethod ({ cls := "TileOfficeModel", name := "row", desc := "(III)I" } : Jvm.MethodName)) ∈ lw_all := lw_g (lw_at lw_m6 88 rfl) rfl
theorem q1367 : (Jvm.Cond.selects "TileOfficeModel" ({ cls := "TileOfficeModel", name := "row", desc := "(III)I" } : Jvm.MethodName) ({ cls := "TileOfficeModel", name := "row", desc := "(III)I" } : Jvm.MethodName)) ∈ lw_all := lw_g (lw_at lw_m6 89 rfl) rfl
theorem q1368 : (Jvm.Cond.code ({ cls := "TileOfficeModel", name := "row", desc := "(III)I" } : Jvm.MethodName) prog_12_method_36_code (8 : Nat) (Option.some Jvm.ClassFile.FieldType.int)) ∈ lw_all := lw_g (lw_at lw_m6 90 rfl) rfl
theorem q1370 : (Jvm.Cond.instanceMethod ({ cls := "TileOfficeModel", name := "shares", desc := "(IIII)Z" } : Jvm.MethodName)) ∈ lw_all := lw_g (lw_at lw_m6 92 rfl) rfl
theorem q1371 : (Jvm.Cond.selects "TileOfficeModel" ({ cls := "TileOfficeModel", name := "shares", desc := "(IIII)Z" } : Jvm.MethodName) ({ cls := "TileOfficeModel", name := "shares", desc := "(IIII)Z" } : Jvm.MethodName)) ∈ lw_all := lw_g (lw_at lw_m6 93 rfl) rfl
theorem q1372 : (Jvm.Cond.code ({ cls := "TileOfficeModel", name := "shares", desc := "(IIII)Z" } : Jvm.MethodName) prog_12_method_37_code (5 : Nat) (Option.some Jvm.ClassFile.FieldType.boolean)) ∈ lw_all := lw_g (lw_at lw_m6 94 rfl) rfl
theorem q1374 : (Jvm.Cond.instanceMethod ({ cls := "TileOfficeModel", name := "copy", desc := "(I)I" } : Jvm.MethodName)) ∈ lw_all := lw_g (lw_at lw_m6 96 rfl) rfl
theorem q1375 : (Jvm.Cond.selects "TileOfficeModel" ({ cls := "TileOfficeModel", name := "copy", desc := "(I)I" } : Jvm.MethodName) ({ cls := "TileOfficeModel", name := "copy", desc := "(I)I" } : Jvm.MethodName)) ∈ lw_all := lw_g (lw_at lw_m6 97 rfl) rfl
theorem q1376 : (Jvm.Cond.code ({ cls := "TileOfficeModel", name := "copy", desc := "(I)I" } : Jvm.MethodName) prog_12_method_38_code (3 : Nat) (Option.some Jvm.ClassFile.FieldType.int)) ∈ lw_all := lw_g (lw_at lw_m6 98 rfl) rfl
theorem q1378 : (Jvm.Cond.instanceMethod ({ cls := "TileOfficeModel", name := "region", desc := "(IIIII)I" } : Jvm.MethodName)) ∈ lw_all := lw_g (lw_at lw_m6 100 rfl) rfl
theorem q1379 : (Jvm.Cond.selects "TileOfficeModel" ({ cls := "TileOfficeModel", name := "region", desc := "(IIIII)I" } : Jvm.MethodName) ({ cls := "TileOfficeModel", name := "region", desc := "(IIIII)I" } : Jvm.MethodName)) ∈ lw_all := lw_g (lw_at lw_m6 101 rfl) rfl
theorem q1380 : (Jvm.Cond.code ({ cls := "TileOfficeModel", name := "region", desc := "(IIIII)I" } : Jvm.MethodName) prog_12_method_40_code (12 : Nat) (Option.some Jvm.ClassFile.FieldType.int)) ∈ lw_all := lw_g (lw_at lw_m6 102 rfl) rfl
theorem q1382 : (Jvm.Cond.instanceMethod ({ cls := "TileOfficeModel", name := "turn", desc := "(I)Z" } : Jvm.MethodName)) ∈ lw_all := lw_g (lw_at lw_m6 104 rfl) rfl
theorem q1383 : (Jvm.Cond.selects "TileOfficeModel" ({ cls := "TileOfficeModel", name := "turn", desc := "(I)Z" } : Jvm.MethodName) ({ cls := "TileOfficeModel", name := "turn", desc := "(I)Z" } : Jvm.MethodName)) ∈ lw_all := lw_g (lw_at lw_m6 105 rfl) rfl
theorem q1384 : (Jvm.Cond.code ({ cls := "TileOfficeModel", name := "turn", desc := "(I)Z" } : Jvm.MethodName) prog_12_method_41_code (6 : Nat) (Option.some Jvm.ClassFile.FieldType.boolean)) ∈ lw_all := lw_g (lw_at lw_m6 106 rfl) rfl
theorem q1385 : (Jvm.Cond.methodLink "TileOfficeModel" (227 : Nat) ({ cls := "TileOfficeModel", name := "comesFrom", desc := "(IIIII)V" } : Jvm.MethodName)) ∈ lw_all := lw_g (lw_at lw_m6 107 rfl) rfl
theorem q1386 : (Jvm.Cond.privateMethod ({ cls := "TileOfficeModel", name := "comesFrom", desc := "(IIIII)V" } : Jvm.MethodName)) ∈ lw_tbl := lw_at lw_m6 108 rfl
theorem q1387 : (Jvm.Cond.instanceMethod ({ cls := "TileOfficeModel", name := "comesFrom", desc := "(IIIII)V" } : Jvm.MethodName)) ∈ lw_all := lw_g (lw_at lw_m6 109 rfl) rfl
theorem q1388 : (Jvm.Cond.code ({ cls := "TileOfficeModel", name := "comesFrom", desc := "(IIIII)V" } : Jvm.MethodName) prog_12_method_39_code (7 : Nat) (Option.none : Option Jvm.ClassFile.FieldType)) ∈ lw_all := lw_g (lw_at lw_m6 110 rfl) rfl
theorem q1389 : (Jvm.Cond.methodLink "TileOfficeModel" (231 : Nat) ({ cls := "TileOfficeModel", name := "moved", desc := "(II)I" } : Jvm.MethodName)) ∈ lw_all := lw_g (lw_at lw_m6 111 rfl) rfl
theorem q1390 : (Jvm.Cond.privateMethod ({ cls := "TileOfficeModel", name := "moved", desc := "(II)I" } : Jvm.MethodName)) ∈ lw_tbl := lw_at lw_m6 112 rfl
theorem q1391 : (Jvm.Cond.instanceMethod ({ cls := "TileOfficeModel", name := "moved", desc := "(II)I" } : Jvm.MethodName)) ∈ lw_all := lw_g (lw_at lw_m6 113 rfl) rfl
theorem q1392 : (Jvm.Cond.code ({ cls := "TileOfficeModel", name := "moved", desc := "(II)I" } : Jvm.MethodName) prog_12_method_16_code (3 : Nat) (Option.some Jvm.ClassFile.FieldType.int)) ∈ lw_all := lw_g (lw_at lw_m6 114 rfl) rfl
theorem q1394 : (Jvm.Cond.instanceMethod ({ cls := "TileOfficeModel", name := "paste", desc := "(III)I" } : Jvm.MethodName)) ∈ lw_all := lw_g (lw_at lw_m6 116 rfl) rfl
theorem q1395 : (Jvm.Cond.selects "TileOfficeModel" ({ cls := "TileOfficeModel", name := "paste", desc := "(III)I" } : Jvm.MethodName) ({ cls := "TileOfficeModel", name := "paste", desc := "(III)I" } : Jvm.MethodName)) ∈ lw_all := lw_g (lw_at lw_m6 117 rfl) rfl
theorem q1396 : (Jvm.Cond.code ({ cls := "TileOfficeModel", name := "paste", desc := "(III)I" } : Jvm.MethodName) prog_12_method_42_code (9 : Nat) (Option.some Jvm.ClassFile.FieldType.int)) ∈ lw_all := lw_g (lw_at lw_m6 118 rfl) rfl
theorem q1397 : (Jvm.Cond.methodLink "TileOfficeModel" (234 : Nat) ({ cls := "TileOfficeModel", name := "comes", desc := "(IIII)I" } : Jvm.MethodName)) ∈ lw_all := lw_g (lw_at lw_m6 119 rfl) rfl
theorem q1398 : (Jvm.Cond.privateMethod ({ cls := "TileOfficeModel", name := "comes", desc := "(IIII)I" } : Jvm.MethodName)) ∈ lw_tbl := lw_at lw_m6 120 rfl
theorem q1399 : (Jvm.Cond.instanceMethod ({ cls := "TileOfficeModel", name := "comes", desc := "(IIII)I" } : Jvm.MethodName)) ∈ lw_all := lw_g (lw_at lw_m6 121 rfl) rfl
theorem q1400 : (Jvm.Cond.code ({ cls := "TileOfficeModel", name := "comes", desc := "(IIII)I" } : Jvm.MethodName) prog_12_method_43_code (7 : Nat) (Option.some Jvm.ClassFile.FieldType.int)) ∈ lw_all := lw_g (lw_at lw_m6 122 rfl) rfl
theorem q1402 : (Jvm.Cond.instanceMethod ({ cls := "TileOfficeModel", name := "rule", desc := "(II)I" } : Jvm.MethodName)) ∈ lw_all := lw_g (lw_at lw_m6 124 rfl) rfl
theorem q1403 : (Jvm.Cond.selects "TileOfficeModel" ({ cls := "TileOfficeModel", name := "rule", desc := "(II)I" } : Jvm.MethodName) ({ cls := "TileOfficeModel", name := "rule", desc := "(II)I" } : Jvm.MethodName)) ∈ lw_all := lw_g (lw_at lw_m6 125 rfl) rfl
theorem q1404 : (Jvm.Cond.code ({ cls := "TileOfficeModel", name := "rule", desc := "(II)I" } : Jvm.MethodName) prog_12_method_45_code (4 : Nat) (Option.some Jvm.ClassFile.FieldType.int)) ∈ lw_all := lw_g (lw_at lw_m6 126 rfl) rfl
theorem q1406 : (Jvm.Cond.instanceMethod ({ cls := "TileOfficeModel", name := "becomes", desc := "(IIIIII)Z" } : Jvm.MethodName)) ∈ lw_all := lw_g (lw_at lw_m6 128 rfl) rfl
theorem q1407 : (Jvm.Cond.selects "TileOfficeModel" ({ cls := "TileOfficeModel", name := "becomes", desc := "(IIIIII)Z" } : Jvm.MethodName) ({ cls := "TileOfficeModel", name := "becomes", desc := "(IIIIII)Z" } : Jvm.MethodName)) ∈ lw_all := lw_g (lw_at lw_m6 129 rfl) rfl
theorem q1408 : (Jvm.Cond.code ({ cls := "TileOfficeModel", name := "becomes", desc := "(IIIIII)Z" } : Jvm.MethodName) prog_12_method_46_code (7 : Nat) (Option.some Jvm.ClassFile.FieldType.boolean)) ∈ lw_all := lw_g (lw_at lw_m6 130 rfl) rfl
theorem q1409 : (Jvm.Cond.methodLink "TileOfficeModel" (241 : Nat) ({ cls := "TileOfficeModel", name := "isRule", desc := "(I)Z" } : Jvm.MethodName)) ∈ lw_all := lw_g (lw_at lw_m6 131 rfl) rfl
theorem q1410 : (Jvm.Cond.privateMethod ({ cls := "TileOfficeModel", name := "isRule", desc := "(I)Z" } : Jvm.MethodName)) ∈ lw_tbl := lw_at lw_m6 132 rfl
theorem q1411 : (Jvm.Cond.instanceMethod ({ cls := "TileOfficeModel", name := "isRule", desc := "(I)Z" } : Jvm.MethodName)) ∈ lw_all := lw_g (lw_at lw_m6 133 rfl) rfl
theorem q1412 : (Jvm.Cond.code ({ cls := "TileOfficeModel", name := "isRule", desc := "(I)Z" } : Jvm.MethodName) prog_12_method_44_code (2 : Nat) (Option.some Jvm.ClassFile.FieldType.boolean)) ∈ lw_all := lw_g (lw_at lw_m6 134 rfl) rfl
theorem q1414 : (Jvm.Cond.instanceMethod ({ cls := "TileOfficeModel", name := "grow", desc := "(III)I" } : Jvm.MethodName)) ∈ lw_all := lw_g (lw_at lw_m6 136 rfl) rfl
theorem q1415 : (Jvm.Cond.selects "TileOfficeModel" ({ cls := "TileOfficeModel", name := "grow", desc := "(III)I" } : Jvm.MethodName) ({ cls := "TileOfficeModel", name := "grow", desc := "(III)I" } : Jvm.MethodName)) ∈ lw_all := lw_g (lw_at lw_m6 137 rfl) rfl
theorem q1416 : (Jvm.Cond.code ({ cls := "TileOfficeModel", name := "grow", desc := "(III)I" } : Jvm.MethodName) prog_12_method_47_code (11 : Nat) (Option.some Jvm.ClassFile.FieldType.int)) ∈ lw_all := lw_g (lw_at lw_m6 138 rfl) rfl
theorem q1417 : (Jvm.Cond.methodLink "TileOfficeModel" (244 : Nat) ({ cls := "TileOfficeModel", name := "grown", desc := "(III)Z" } : Jvm.MethodName)) ∈ lw_all := lw_g (lw_at lw_m6 139 rfl) rfl
theorem q1418 : (Jvm.Cond.privateMethod ({ cls := "TileOfficeModel", name := "grown", desc := "(III)Z" } : Jvm.MethodName)) ∈ lw_tbl := lw_at lw_m6 140 rfl
theorem q1419 : (Jvm.Cond.instanceMethod ({ cls := "TileOfficeModel", name := "grown", desc := "(III)Z" } : Jvm.MethodName)) ∈ lw_all := lw_g (lw_at lw_m6 141 rfl) rfl
theorem q1420 : (Jvm.Cond.code ({ cls := "TileOfficeModel", name := "grown", desc := "(III)Z" } : Jvm.MethodName) prog_12_method_48_code (13 : Nat) (Option.some Jvm.ClassFile.FieldType.boolean)) ∈ lw_all := lw_g (lw_at lw_m6 142 rfl) rfl
theorem q1421 : (Jvm.Cond.methodLink "TileOfficeModel" (252 : Nat) ({ cls := "TileOfficeModel", name := "block", desc := "(IIII)I" } : Jvm.MethodName)) ∈ lw_all := lw_g (lw_at lw_m6 143 rfl) rfl
theorem q1422 : (Jvm.Cond.privateMethod ({ cls := "TileOfficeModel", name := "block", desc := "(IIII)I" } : Jvm.MethodName)) ∈ lw_tbl := lw_at lw_m6 144 rfl
theorem q1423 : (Jvm.Cond.instanceMethod ({ cls := "TileOfficeModel", name := "block", desc := "(IIII)I" } : Jvm.MethodName)) ∈ lw_all := lw_g (lw_at lw_m6 145 rfl) rfl
theorem q1424 : (Jvm.Cond.code ({ cls := "TileOfficeModel", name := "block", desc := "(IIII)I" } : Jvm.MethodName) prog_12_method_49_code (6 : Nat) (Option.some Jvm.ClassFile.FieldType.int)) ∈ lw_all := lw_g (lw_at lw_m6 146 rfl) rfl
theorem q1425 : (Jvm.Cond.methodLink "TileOfficeModel" (248 : Nat) ({ cls := "TileOfficeModel", name := "pattern", desc := "()I" } : Jvm.MethodName)) ∈ lw_all := lw_g (lw_at lw_m6 147 rfl) rfl
theorem q1427 : (Jvm.Cond.instanceMethod ({ cls := "TileOfficeModel", name := "foretold", desc := "(IIII)J" } : Jvm.MethodName)) ∈ lw_all := lw_g (lw_at lw_m6 149 rfl) rfl
theorem q1428 : (Jvm.Cond.selects "TileOfficeModel" ({ cls := "TileOfficeModel", name := "foretold", desc := "(IIII)J" } : Jvm.MethodName) ({ cls := "TileOfficeModel", name := "foretold", desc := "(IIII)J" } : Jvm.MethodName)) ∈ lw_all := lw_g (lw_at lw_m6 150 rfl) rfl
theorem q1429 : (Jvm.Cond.code ({ cls := "TileOfficeModel", name := "foretold", desc := "(IIII)J" } : Jvm.MethodName) prog_12_method_51_code (9 : Nat) (Option.some Jvm.ClassFile.FieldType.long)) ∈ lw_all := lw_g (lw_at lw_m6 151 rfl) rfl
theorem q1430 : (Jvm.Cond.constantLong "TileOfficeModel" (255 : Nat) (-1 : Int64)) ∈ lw_all := lw_g (lw_at lw_m6 152 rfl) rfl
theorem q1431 : (Jvm.Cond.methodLink "TileOfficeModel" (257 : Nat) ({ cls := "TileOfficeModel", name := "sum", desc := "(JJ)J" } : Jvm.MethodName)) ∈ lw_all := lw_g (lw_at lw_m6 153 rfl) rfl
theorem q1432 : (Jvm.Cond.static ({ cls := "TileOfficeModel", name := "sum", desc := "(JJ)J" } : Jvm.MethodName)) ∈ lw_all := lw_g (lw_at lw_m6 154 rfl) rfl
theorem q1433 : (Jvm.Cond.code ({ cls := "TileOfficeModel", name := "sum", desc := "(JJ)J" } : Jvm.MethodName) prog_12_method_50_code (4 : Nat) (Option.some Jvm.ClassFile.FieldType.long)) ∈ lw_all := lw_g (lw_at lw_m6 155 rfl) rfl
theorem q1434 : (Jvm.Cond.constantLong "TileOfficeModel" (261 : Nat) (-2 : Int64)) ∈ lw_all := lw_g (lw_at lw_m6 156 rfl) rfl
theorem q1436 : (Jvm.Cond.instanceMethod ({ cls := "TileOfficeModel", name := "count", desc := "(II)I" } : Jvm.MethodName)) ∈ lw_all := lw_g (lw_at lw_m6 158 rfl) rfl
theorem q1437 : (Jvm.Cond.selects "TileOfficeModel" ({ cls := "TileOfficeModel", name := "count", desc := "(II)I" } : Jvm.MethodName) ({ cls := "TileOfficeModel", name := "count", desc := "(II)I" } : Jvm.MethodName)) ∈ lw_all := lw_g (lw_at lw_m6 159 rfl) rfl
theorem q1438 : (Jvm.Cond.code ({ cls := "TileOfficeModel", name := "count", desc := "(II)I" } : Jvm.MethodName) prog_12_method_52_code (8 : Nat) (Option.some Jvm.ClassFile.FieldType.int)) ∈ lw_all := lw_g (lw_at lw_m6 160 rfl) rfl
theorem q1440 : (Jvm.Cond.instanceMethod ({ cls := "TileOfficeModel", name := "fits", desc := "(I)I" } : Jvm.MethodName)) ∈ lw_all := lw_g (lw_at lw_m6 162 rfl) rfl
theorem q1441 : (Jvm.Cond.selects "TileOfficeModel" ({ cls := "TileOfficeModel", name := "fits", desc := "(I)I" } : Jvm.MethodName) ({ cls := "TileOfficeModel", name := "fits", desc := "(I)I" } : Jvm.MethodName)) ∈ lw_all := lw_g (lw_at lw_m6 163 rfl) rfl
theorem q1442 : (Jvm.Cond.code ({ cls := "TileOfficeModel", name := "fits", desc := "(I)I" } : Jvm.MethodName) prog_12_method_53_code (10 : Nat) (Option.some Jvm.ClassFile.FieldType.int)) ∈ lw_all := lw_g (lw_at lw_m6 164 rfl) rfl
theorem q1443 : (Jvm.Cond.methodLink "TileOfficeModel" (263 : Nat) ({ cls := "TileOfficeModel", name := "fit", desc := "(III)Z" } : Jvm.MethodName)) ∈ lw_all := lw_g (lw_at lw_m6 165 rfl) rfl
theorem q1444 : (Jvm.Cond.privateMethod ({ cls := "TileOfficeModel", name := "fit", desc := "(III)Z" } : Jvm.MethodName)) ∈ lw_tbl := lw_at lw_m6 166 rfl
theorem q1445 : (Jvm.Cond.instanceMethod ({ cls := "TileOfficeModel", name := "fit", desc := "(III)Z" } : Jvm.MethodName)) ∈ lw_all := lw_g (lw_at lw_m6 167 rfl) rfl
theorem q1446 : (Jvm.Cond.code ({ cls := "TileOfficeModel", name := "fit", desc := "(III)Z" } : Jvm.MethodName) prog_12_method_17_code (4 : Nat) (Option.some Jvm.ClassFile.FieldType.boolean)) ∈ lw_all := lw_g (lw_at lw_m6 168 rfl) rfl
theorem q1448 : (Jvm.Cond.instanceMethod ({ cls := "TileOfficeModel", name := "period", desc := "(II)I" } : Jvm.MethodName)) ∈ lw_all := lw_g (lw_at lw_m6 170 rfl) rfl
theorem q1449 : (Jvm.Cond.selects "TileOfficeModel" ({ cls := "TileOfficeModel", name := "period", desc := "(II)I" } : Jvm.MethodName) ({ cls := "TileOfficeModel", name := "period", desc := "(II)I" } : Jvm.MethodName)) ∈ lw_all := lw_g (lw_at lw_m6 171 rfl) rfl
theorem q1450 : (Jvm.Cond.code ({ cls := "TileOfficeModel", name := "period", desc := "(II)I" } : Jvm.MethodName) prog_12_method_54_code (4 : Nat) (Option.some Jvm.ClassFile.FieldType.int)) ∈ lw_all := lw_g (lw_at lw_m6 172 rfl) rfl
theorem q1451 : (Jvm.Cond.methodLink "TileOfficeModel" (266 : Nat) ({ cls := "TileOfficeModel", name := "comesAgain", desc := "(III)Z" } : Jvm.MethodName)) ∈ lw_all := lw_g (lw_at lw_m6 173 rfl) rfl
theorem q1452 : (Jvm.Cond.privateMethod ({ cls := "TileOfficeModel", name := "comesAgain", desc := "(III)Z" } : Jvm.MethodName)) ∈ lw_tbl := lw_at lw_m6 174 rfl
theorem q1453 : (Jvm.Cond.instanceMethod ({ cls := "TileOfficeModel", name := "comesAgain", desc := "(III)Z" } : Jvm.MethodName)) ∈ lw_all := lw_g (lw_at lw_m6 175 rfl) rfl
theorem q1454 : (Jvm.Cond.code ({ cls := "TileOfficeModel", name := "comesAgain", desc := "(III)Z" } : Jvm.MethodName) prog_12_method_55_code (8 : Nat) (Option.some Jvm.ClassFile.FieldType.boolean)) ∈ lw_all := lw_g (lw_at lw_m6 176 rfl) rfl
theorem q1456 : (Jvm.Cond.instanceMethod ({ cls := "TileOfficeModel", name := "kept", desc := "(I)I" } : Jvm.MethodName)) ∈ lw_all := lw_g (lw_at lw_m6 178 rfl) rfl
theorem q1457 : (Jvm.Cond.selects "TileOfficeModel" ({ cls := "TileOfficeModel", name := "kept", desc := "(I)I" } : Jvm.MethodName) ({ cls := "TileOfficeModel", name := "kept", desc := "(I)I" } : Jvm.MethodName)) ∈ lw_all := lw_g (lw_at lw_m6 179 rfl) rfl
theorem q1458 : (Jvm.Cond.code ({ cls := "TileOfficeModel", name := "kept", desc := "(I)I" } : Jvm.MethodName) prog_12_method_60_code (4 : Nat) (Option.some Jvm.ClassFile.FieldType.int)) ∈ lw_all := lw_g (lw_at lw_m6 180 rfl) rfl
theorem q1459 : (Jvm.Cond.methodLink "TileOfficeModel" (275 : Nat) ({ cls := "TileOfficeModel", name := "isFull", desc := "(I)Z" } : Jvm.MethodName)) ∈ lw_all := lw_g (lw_at lw_m6 181 rfl) rfl
theorem q1460 : (Jvm.Cond.privateMethod ({ cls := "TileOfficeModel", name := "isFull", desc := "(I)Z" } : Jvm.MethodName)) ∈ lw_tbl := lw_at lw_m6 182 rfl
theorem q1461 : (Jvm.Cond.instanceMethod ({ cls := "TileOfficeModel", name := "isFull", desc := "(I)Z" } : Jvm.MethodName)) ∈ lw_all := lw_g (lw_at lw_m6 183 rfl) rfl
theorem q1462 : (Jvm.Cond.code ({ cls := "TileOfficeModel", name := "isFull", desc := "(I)Z" } : Jvm.MethodName) prog_12_method_56_code (4 : Nat) (Option.some Jvm.ClassFile.FieldType.boolean)) ∈ lw_all := lw_g (lw_at lw_m6 184 rfl) rfl
theorem q1463 : (Jvm.Cond.methodLink "TileOfficeModel" (278 : Nat) ({ cls := "TileOfficeModel", name := "isMoved", desc := "(III)Z" } : Jvm.MethodName)) ∈ lw_all := lw_g (lw_at lw_m6 185 rfl) rfl
theorem q1464 : (Jvm.Cond.privateMethod ({ cls := "TileOfficeModel", name := "isMoved", desc := "(III)Z" } : Jvm.MethodName)) ∈ lw_tbl := lw_at lw_m6 186 rfl
theorem q1465 : (Jvm.Cond.instanceMethod ({ cls := "TileOfficeModel", name := "isMoved", desc := "(III)Z" } : Jvm.MethodName)) ∈ lw_all := lw_g (lw_at lw_m6 187 rfl) rfl
theorem q1466 : (Jvm.Cond.code ({ cls := "TileOfficeModel", name := "isMoved", desc := "(III)Z" } : Jvm.MethodName) prog_12_method_59_code (8 : Nat) (Option.some Jvm.ClassFile.FieldType.boolean)) ∈ lw_all := lw_g (lw_at lw_m6 188 rfl) rfl
theorem q1467 : (Jvm.Cond.methodLink "TileOfficeModel" (269 : Nat) ({ cls := "TileOfficeModel", name := "wide", desc := "(I)I" } : Jvm.MethodName)) ∈ lw_all := lw_g (lw_at lw_m6 189 rfl) rfl
theorem q1468 : (Jvm.Cond.privateMethod ({ cls := "TileOfficeModel", name := "wide", desc := "(I)I" } : Jvm.MethodName)) ∈ lw_tbl := lw_at lw_m6 190 rfl
theorem q1469 : (Jvm.Cond.instanceMethod ({ cls := "TileOfficeModel", name := "wide", desc := "(I)I" } : Jvm.MethodName)) ∈ lw_all := lw_g (lw_at lw_m6 191 rfl) rfl
theorem q1470 : (Jvm.Cond.code ({ cls := "TileOfficeModel", name := "wide", desc := "(I)I" } : Jvm.MethodName) prog_12_method_57_code (2 : Nat) (Option.some Jvm.ClassFile.FieldType.int)) ∈ lw_all := lw_g (lw_at lw_m6 192 rfl) rfl
theorem q1471 : (Jvm.Cond.methodLink "TileOfficeModel" (272 : Nat) ({ cls := "TileOfficeModel", name := "movedCell", desc := "(IIII)I" } : Jvm.MethodName)) ∈ lw_all := lw_g (lw_at lw_m6 193 rfl) rfl
theorem q1472 : (Jvm.Cond.privateMethod ({ cls := "TileOfficeModel", name := "movedCell", desc := "(IIII)I" } : Jvm.MethodName)) ∈ lw_tbl := lw_at lw_m6 194 rfl
theorem q1473 : (Jvm.Cond.instanceMethod ({ cls := "TileOfficeModel", name := "movedCell", desc := "(IIII)I" } : Jvm.MethodName)) ∈ lw_all := lw_g (lw_at lw_m6 195 rfl) rfl
theorem q1474 : (Jvm.Cond.code ({ cls := "TileOfficeModel", name := "movedCell", desc := "(IIII)I" } : Jvm.MethodName) prog_12_method_58_code (5 : Nat) (Option.some Jvm.ClassFile.FieldType.int)) ∈ lw_all := lw_g (lw_at lw_m6 196 rfl) rfl
theorem q1476 : (Jvm.Cond.instanceMethod ({ cls := "TileOfficeModel", name := "congruent", desc := "(II)I" } : Jvm.MethodName)) ∈ lw_all := lw_g (lw_at lw_m6 198 rfl) rfl
theorem q1477 : (Jvm.Cond.selects "TileOfficeModel" ({ cls := "TileOfficeModel", name := "congruent", desc := "(II)I" } : Jvm.MethodName) ({ cls := "TileOfficeModel", name := "congruent", desc := "(II)I" } : Jvm.MethodName)) ∈ lw_all := lw_g (lw_at lw_m6 199 rfl) rfl
theorem q1478 : (Jvm.Cond.code ({ cls := "TileOfficeModel", name := "congruent", desc := "(II)I" } : Jvm.MethodName) prog_12_method_61_code (4 : Nat) (Option.some Jvm.ClassFile.FieldType.int)) ∈ lw_all := lw_g (lw_at lw_m6 200 rfl) rfl
theorem q1480 : (Jvm.Cond.instanceMethod ({ cls := "TileOfficeModel", name := "find", desc := "(III)I" } : Jvm.MethodName)) ∈ lw_all := lw_g (lw_at lw_m6 202 rfl) rfl
theorem q1481 : (Jvm.Cond.selects "TileOfficeModel" ({ cls := "TileOfficeModel", name := "find", desc := "(III)I" } : Jvm.MethodName) ({ cls := "TileOfficeModel", name := "find", desc := "(III)I" } : Jvm.MethodName)) ∈ lw_all := lw_g (lw_at lw_m6 203 rfl) rfl
theorem q1482 : (Jvm.Cond.code ({ cls := "TileOfficeModel", name := "find", desc := "(III)I" } : Jvm.MethodName) prog_12_method_63_code (9 : Nat) (Option.some Jvm.ClassFile.FieldType.int)) ∈ lw_all := lw_g (lw_at lw_m6 204 rfl) rfl
theorem q1483 : (Jvm.Cond.methodLink "TileOfficeModel" (281 : Nat) ({ cls := "TileOfficeModel", name := "isFound", desc := "(IIIII)Z" } : Jvm.MethodName)) ∈ lw_all := lw_g (lw_at lw_m6 205 rfl) rfl
theorem q1484 : (Jvm.Cond.privateMethod ({ cls := "TileOfficeModel", name := "isFound", desc := "(IIIII)Z" } : Jvm.MethodName)) ∈ lw_tbl := lw_at lw_m6 206 rfl
theorem q1485 : (Jvm.Cond.instanceMethod ({ cls := "TileOfficeModel", name := "isFound", desc := "(IIIII)Z" } : Jvm.MethodName)) ∈ lw_all := lw_g (lw_at lw_m6 207 rfl) rfl
theorem q1486 : (Jvm.Cond.code ({ cls := "TileOfficeModel", name := "isFound", desc := "(IIIII)Z" } : Jvm.MethodName) prog_12_method_62_code (10 : Nat) (Option.some Jvm.ClassFile.FieldType.boolean)) ∈ lw_all := lw_g (lw_at lw_m6 208 rfl) rfl
theorem q1488 : (Jvm.Cond.instanceMethod ({ cls := "TileOfficeModel", name := "floor", desc := "(II)I" } : Jvm.MethodName)) ∈ lw_all := lw_g (lw_at lw_m6 210 rfl) rfl
theorem q1489 : (Jvm.Cond.selects "TileOfficeModel" ({ cls := "TileOfficeModel", name := "floor", desc := "(II)I" } : Jvm.MethodName) ({ cls := "TileOfficeModel", name := "floor", desc := "(II)I" } : Jvm.MethodName)) ∈ lw_all := lw_g (lw_at lw_m6 211 rfl) rfl
theorem q1490 : (Jvm.Cond.code ({ cls := "TileOfficeModel", name := "floor", desc := "(II)I" } : Jvm.MethodName) prog_12_method_65_code (4 : Nat) (Option.some Jvm.ClassFile.FieldType.int)) ∈ lw_all := lw_g (lw_at lw_m6 212 rfl) rfl
theorem q1492 : (Jvm.Cond.instanceMethod ({ cls := "TileOfficeModel", name := "place", desc := "(IIIII)Z" } : Jvm.MethodName)) ∈ lw_all := lw_g (lw_at lw_m6 214 rfl) rfl
theorem q1493 : (Jvm.Cond.selects "TileOfficeModel" ({ cls := "TileOfficeModel", name := "place", desc := "(IIIII)Z" } : Jvm.MethodName) ({ cls := "TileOfficeModel", name := "place", desc := "(IIIII)Z" } : Jvm.MethodName)) ∈ lw_all := lw_g (lw_at lw_m6 215 rfl) rfl
theorem q1494 : (Jvm.Cond.code ({ cls := "TileOfficeModel", name := "place", desc := "(IIIII)Z" } : Jvm.MethodName) prog_12_method_67_code (7 : Nat) (Option.some Jvm.ClassFile.FieldType.boolean)) ∈ lw_all := lw_g (lw_at lw_m6 216 rfl) rfl
theorem q1495 : (Jvm.Cond.methodLink "TileOfficeModel" (291 : Nat) ({ cls := "TileOfficeModel", name := "isPlace", desc := "(III)Z" } : Jvm.MethodName)) ∈ lw_all := lw_g (lw_at lw_m6 217 rfl) rfl
theorem q1496 : (Jvm.Cond.privateMethod ({ cls := "TileOfficeModel", name := "isPlace", desc := "(III)Z" } : Jvm.MethodName)) ∈ lw_tbl := lw_at lw_m6 218 rfl
theorem q1497 : (Jvm.Cond.instanceMethod ({ cls := "TileOfficeModel", name := "isPlace", desc := "(III)Z" } : Jvm.MethodName)) ∈ lw_all := lw_g (lw_at lw_m6 219 rfl) rfl
theorem q1498 : (Jvm.Cond.code ({ cls := "TileOfficeModel", name := "isPlace", desc := "(III)Z" } : Jvm.MethodName) prog_12_method_66_code (4 : Nat) (Option.some Jvm.ClassFile.FieldType.boolean)) ∈ lw_all := lw_g (lw_at lw_m6 220 rfl) rfl
theorem q1499 : (Jvm.Cond.methodLink "TileOfficeModel" (288 : Nat) ({ cls := "TileOfficeModel", name := "isFloor", desc := "(I)Z" } : Jvm.MethodName)) ∈ lw_all := lw_g (lw_at lw_m6 221 rfl) rfl
theorem q1500 : (Jvm.Cond.privateMethod ({ cls := "TileOfficeModel", name := "isFloor", desc := "(I)Z" } : Jvm.MethodName)) ∈ lw_tbl := lw_at lw_m6 222 rfl
theorem q1501 : (Jvm.Cond.instanceMethod ({ cls := "TileOfficeModel", name := "isFloor", desc := "(I)Z" } : Jvm.MethodName)) ∈ lw_all := lw_g (lw_at lw_m6 223 rfl) rfl
theorem q1502 : (Jvm.Cond.code ({ cls := "TileOfficeModel", name := "isFloor", desc := "(I)Z" } : Jvm.MethodName) prog_12_method_64_code (2 : Nat) (Option.some Jvm.ClassFile.FieldType.boolean)) ∈ lw_all := lw_g (lw_at lw_m6 224 rfl) rfl
theorem q1504 : (Jvm.Cond.instanceMethod ({ cls := "TileOfficeModel", name := "stock", desc := "(III)Z" } : Jvm.MethodName)) ∈ lw_all := lw_g (lw_at lw_m6 226 rfl) rfl
theorem q1505 : (Jvm.Cond.selects "TileOfficeModel" ({ cls := "TileOfficeModel", name := "stock", desc := "(III)Z" } : Jvm.MethodName) ({ cls := "TileOfficeModel", name := "stock", desc := "(III)Z" } : Jvm.MethodName)) ∈ lw_all := lw_g (lw_at lw_m6 227 rfl) rfl
theorem q1506 : (Jvm.Cond.code ({ cls := "TileOfficeModel", name := "stock", desc := "(III)Z" } : Jvm.MethodName) prog_12_method_68_code (4 : Nat) (Option.some Jvm.ClassFile.FieldType.boolean)) ∈ lw_all := lw_g (lw_at lw_m6 228 rfl) rfl
theorem q1508 : (Jvm.Cond.instanceMethod ({ cls := "TileOfficeModel", name := "shown", desc := "(III)I" } : Jvm.MethodName)) ∈ lw_all := lw_g (lw_at lw_m6 230 rfl) rfl
theorem q1509 : (Jvm.Cond.selects "TileOfficeModel" ({ cls := "TileOfficeModel", name := "shown", desc := "(III)I" } : Jvm.MethodName) ({ cls := "TileOfficeModel", name := "shown", desc := "(III)I" } : Jvm.MethodName)) ∈ lw_all := lw_g (lw_at lw_m6 231 rfl) rfl
theorem q1510 : (Jvm.Cond.code ({ cls := "TileOfficeModel", name := "shown", desc := "(III)I" } : Jvm.MethodName) prog_12_method_69_code (6 : Nat) (Option.some Jvm.ClassFile.FieldType.int)) ∈ lw_all := lw_g (lw_at lw_m6 232 rfl) rfl
theorem q1512 : (Jvm.Cond.instanceMethod ({ cls := "TileOfficeModel", name := "fill", desc := "(I)I" } : Jvm.MethodName)) ∈ lw_all := lw_g (lw_at lw_m6 234 rfl) rfl
theorem q1513 : (Jvm.Cond.selects "TileOfficeModel" ({ cls := "TileOfficeModel", name := "fill", desc := "(I)I" } : Jvm.MethodName) ({ cls := "TileOfficeModel", name := "fill", desc := "(I)I" } : Jvm.MethodName)) ∈ lw_all := lw_g (lw_at lw_m6 235 rfl) rfl
theorem q1514 : (Jvm.Cond.code ({ cls := "TileOfficeModel", name := "fill", desc := "(I)I" } : Jvm.MethodName) prog_12_method_81_code (2 : Nat) (Option.some Jvm.ClassFile.FieldType.int)) ∈ lw_all := lw_g (lw_at lw_m6 236 rfl) rfl
theorem q1515 : (Jvm.Cond.methodLink "TileOfficeModel" (351 : Nat) ({ cls := "TileOfficeModel", name := "starts", desc := "(I)Z" } : Jvm.MethodName)) ∈ lw_all := lw_g (lw_at lw_m6 237 rfl) rfl
theorem q1516 : (Jvm.Cond.privateMethod ({ cls := "TileOfficeModel", name := "starts", desc := "(I)Z" } : Jvm.MethodName)) ∈ lw_tbl := lw_at lw_m6 238 rfl
theorem q1517 : (Jvm.Cond.instanceMethod ({ cls := "TileOfficeModel", name := "starts", desc := "(I)Z" } : Jvm.MethodName)) ∈ lw_all := lw_g (lw_at lw_m6 239 rfl) rfl
theorem q1518 : (Jvm.Cond.code ({ cls := "TileOfficeModel", name := "starts", desc := "(I)Z" } : Jvm.MethodName) prog_12_method_74_code (7 : Nat) (Option.some Jvm.ClassFile.FieldType.boolean)) ∈ lw_all := lw_g (lw_at lw_m7 0 rfl) rfl
theorem q1519 : (Jvm.Cond.methodLink "TileOfficeModel" (300 : Nat) ({ cls := "TileOfficeModel", name := "mayLie", desc := "(II)Z" } : Jvm.MethodName)) ∈ lw_all := lw_g (lw_at lw_m7 1 rfl) rfl
theorem q1520 : (Jvm.Cond.privateMethod ({ cls := "TileOfficeModel", name := "mayLie", desc := "(II)Z" } : Jvm.MethodName)) ∈ lw_tbl := lw_at lw_m7 2 rfl
theorem q1521 : (Jvm.Cond.instanceMethod ({ cls := "TileOfficeModel", name := "mayLie", desc := "(II)Z" } : Jvm.MethodName)) ∈ lw_all := lw_g (lw_at lw_m7 3 rfl) rfl
theorem q1522 : (Jvm.Cond.code ({ cls := "TileOfficeModel", name := "mayLie", desc := "(II)Z" } : Jvm.MethodName) prog_12_method_71_code (5 : Nat) (Option.some Jvm.ClassFile.FieldType.boolean)) ∈ lw_all := lw_g (lw_at lw_m7 4 rfl) rfl
theorem q1523 : (Jvm.Cond.methodLink "TileOfficeModel" (297 : Nat) ({ cls := "TileOfficeModel", name := "lyingAt", desc := "(II)I" } : Jvm.MethodName)) ∈ lw_all := lw_g (lw_at lw_m7 5 rfl) rfl
theorem q1524 : (Jvm.Cond.privateMethod ({ cls := "TileOfficeModel", name := "lyingAt", desc := "(II)I" } : Jvm.MethodName)) ∈ lw_tbl := lw_at lw_m7 6 rfl
theorem q1525 : (Jvm.Cond.instanceMethod ({ cls := "TileOfficeModel", name := "lyingAt", desc := "(II)I" } : Jvm.MethodName)) ∈ lw_all := lw_g (lw_at lw_m7 7 rfl) rfl
theorem q1526 : (Jvm.Cond.code ({ cls := "TileOfficeModel", name := "lyingAt", desc := "(II)I" } : Jvm.MethodName) prog_12_method_70_code (4 : Nat) (Option.some Jvm.ClassFile.FieldType.int)) ∈ lw_all := lw_g (lw_at lw_m7 8 rfl) rfl
theorem q1527 : (Jvm.Cond.methodLink "TileOfficeModel" (354 : Nat) ({ cls := "TileOfficeModel", name := "search", desc := "(IZ)V" } : Jvm.MethodName)) ∈ lw_all := lw_g (lw_at lw_m7 9 rfl) rfl
theorem q1528 : (Jvm.Cond.privateMethod ({ cls := "TileOfficeModel", name := "search", desc := "(IZ)V" } : Jvm.MethodName)) ∈ lw_tbl := lw_at lw_m7 10 rfl
theorem q1529 : (Jvm.Cond.instanceMethod ({ cls := "TileOfficeModel", name := "search", desc := "(IZ)V" } : Jvm.MethodName)) ∈ lw_all := lw_g (lw_at lw_m7 11 rfl) rfl
theorem q1530 : (Jvm.Cond.code ({ cls := "TileOfficeModel", name := "search", desc := "(IZ)V" } : Jvm.MethodName) prog_12_method_80_code (7 : Nat) (Option.none : Option Jvm.ClassFile.FieldType)) ∈ lw_all := lw_g (lw_at lw_m7 12 rfl) rfl
theorem q1531 : (Jvm.Cond.methodLink "TileOfficeModel" (332 : Nat) ({ cls := "TileOfficeModel", name := "leastCost", desc := "()I" } : Jvm.MethodName)) ∈ lw_all := lw_g (lw_at lw_m7 13 rfl) rfl
theorem q1532 : (Jvm.Cond.privateMethod ({ cls := "TileOfficeModel", name := "leastCost", desc := "()I" } : Jvm.MethodName)) ∈ lw_tbl := lw_at lw_m7 14 rfl
theorem q1533 : (Jvm.Cond.instanceMethod ({ cls := "TileOfficeModel", name := "leastCost", desc := "()I" } : Jvm.MethodName)) ∈ lw_all := lw_g (lw_at lw_m7 15 rfl) rfl
theorem q1534 : (Jvm.Cond.code ({ cls := "TileOfficeModel", name := "leastCost", desc := "()I" } : Jvm.MethodName) prog_12_method_79_code (4 : Nat) (Option.some Jvm.ClassFile.FieldType.int)) ∈ lw_all := lw_g (lw_at lw_m7 16 rfl) rfl
theorem q1535 : (Jvm.Cond.methodLink "TileOfficeModel" (335 : Nat) ({ cls := "TileOfficeModel", name := "nextPlace", desc := "()I" } : Jvm.MethodName)) ∈ lw_all := lw_g (lw_at lw_m7 17 rfl) rfl
theorem q1536 : (Jvm.Cond.privateMethod ({ cls := "TileOfficeModel", name := "nextPlace", desc := "()I" } : Jvm.MethodName)) ∈ lw_tbl := lw_at lw_m7 18 rfl
theorem q1537 : (Jvm.Cond.instanceMethod ({ cls := "TileOfficeModel", name := "nextPlace", desc := "()I" } : Jvm.MethodName)) ∈ lw_all := lw_g (lw_at lw_m7 19 rfl) rfl
theorem q1538 : (Jvm.Cond.code ({ cls := "TileOfficeModel", name := "nextPlace", desc := "()I" } : Jvm.MethodName) prog_12_method_76_code (5 : Nat) (Option.some Jvm.ClassFile.FieldType.int)) ∈ lw_all := lw_g (lw_at lw_m7 20 rfl) rfl
theorem q1539 : (Jvm.Cond.methodLink "TileOfficeModel" (310 : Nat) ({ cls := "TileOfficeModel", name := "fitting", desc := "(I)I" } : Jvm.MethodName)) ∈ lw_all := lw_g (lw_at lw_m7 21 rfl) rfl
theorem q1540 : (Jvm.Cond.privateMethod ({ cls := "TileOfficeModel", name := "fitting", desc := "(I)I" } : Jvm.MethodName)) ∈ lw_tbl := lw_at lw_m7 22 rfl
theorem q1541 : (Jvm.Cond.instanceMethod ({ cls := "TileOfficeModel", name := "fitting", desc := "(I)I" } : Jvm.MethodName)) ∈ lw_all := lw_g (lw_at lw_m7 23 rfl) rfl
theorem q1542 : (Jvm.Cond.code ({ cls := "TileOfficeModel", name := "fitting", desc := "(I)I" } : Jvm.MethodName) prog_12_method_73_code (4 : Nat) (Option.some Jvm.ClassFile.FieldType.int)) ∈ lw_all := lw_g (lw_at lw_m7 24 rfl) rfl
theorem q1543 : (Jvm.Cond.methodLink "TileOfficeModel" (304 : Nat) ({ cls := "TileOfficeModel", name := "nextFitting", desc := "(II)I" } : Jvm.MethodName)) ∈ lw_all := lw_g (lw_at lw_m7 25 rfl) rfl
theorem q1544 : (Jvm.Cond.privateMethod ({ cls := "TileOfficeModel", name := "nextFitting", desc := "(II)I" } : Jvm.MethodName)) ∈ lw_tbl := lw_at lw_m7 26 rfl
theorem q1545 : (Jvm.Cond.instanceMethod ({ cls := "TileOfficeModel", name := "nextFitting", desc := "(II)I" } : Jvm.MethodName)) ∈ lw_all := lw_g (lw_at lw_m7 27 rfl) rfl
theorem q1546 : (Jvm.Cond.code ({ cls := "TileOfficeModel", name := "nextFitting", desc := "(II)I" } : Jvm.MethodName) prog_12_method_72_code (5 : Nat) (Option.some Jvm.ClassFile.FieldType.int)) ∈ lw_all := lw_g (lw_at lw_m7 28 rfl) rfl
theorem q1547 : (Jvm.Cond.methodLink "TileOfficeModel" (338 : Nat) ({ cls := "TileOfficeModel", name := "show", desc := "()V" } : Jvm.MethodName)) ∈ lw_all := lw_g (lw_at lw_m7 29 rfl) rfl
theorem q1548 : (Jvm.Cond.privateMethod ({ cls := "TileOfficeModel", name := "show", desc := "()V" } : Jvm.MethodName)) ∈ lw_tbl := lw_at lw_m7 30 rfl
theorem q1549 : (Jvm.Cond.instanceMethod ({ cls := "TileOfficeModel", name := "show", desc := "()V" } : Jvm.MethodName)) ∈ lw_all := lw_g (lw_at lw_m7 31 rfl) rfl
theorem q1550 : (Jvm.Cond.code ({ cls := "TileOfficeModel", name := "show", desc := "()V" } : Jvm.MethodName) prog_12_method_75_code (2 : Nat) (Option.none : Option Jvm.ClassFile.FieldType)) ∈ lw_all := lw_g (lw_at lw_m7 32 rfl) rfl
theorem q1551 : (Jvm.Cond.methodLink "TileOfficeModel" (341 : Nat) ({ cls := "TileOfficeModel", name := "takeBack", desc := "(I)V" } : Jvm.MethodName)) ∈ lw_all := lw_g (lw_at lw_m7 33 rfl) rfl
theorem q1552 : (Jvm.Cond.privateMethod ({ cls := "TileOfficeModel", name := "takeBack", desc := "(I)V" } : Jvm.MethodName)) ∈ lw_tbl := lw_at lw_m7 34 rfl
theorem q1553 : (Jvm.Cond.instanceMethod ({ cls := "TileOfficeModel", name := "takeBack", desc := "(I)V" } : Jvm.MethodName)) ∈ lw_all := lw_g (lw_at lw_m7 35 rfl) rfl
theorem q1554 : (Jvm.Cond.code ({ cls := "TileOfficeModel", name := "takeBack", desc := "(I)V" } : Jvm.MethodName) prog_12_method_78_code (3 : Nat) (Option.none : Option Jvm.ClassFile.FieldType)) ∈ lw_all := lw_g (lw_at lw_m7 36 rfl) rfl
theorem q1555 : (Jvm.Cond.constant "TileOfficeModel" (347 : Nat) (600000 : Int32)) ∈ lw_all := lw_g (lw_at lw_m7 37 rfl) rfl
theorem q1556 : (Jvm.Cond.methodLink "TileOfficeModel" (348 : Nat) ({ cls := "TileOfficeModel", name := "lay", desc := "(II)V" } : Jvm.MethodName)) ∈ lw_all := lw_g (lw_at lw_m7 38 rfl) rfl
theorem q1557 : (Jvm.Cond.privateMethod ({ cls := "TileOfficeModel", name := "lay", desc := "(II)V" } : Jvm.MethodName)) ∈ lw_tbl := lw_at lw_m7 39 rfl
theorem q1558 : (Jvm.Cond.instanceMethod ({ cls := "TileOfficeModel", name := "lay", desc := "(II)V" } : Jvm.MethodName)) ∈ lw_all := lw_g (lw_at lw_m7 40 rfl) rfl
theorem q1559 : (Jvm.Cond.code ({ cls := "TileOfficeModel", name := "lay", desc := "(II)V" } : Jvm.MethodName) prog_12_method_77_code (3 : Nat) (Option.none : Option Jvm.ClassFile.FieldType)) ∈ lw_all := lw_g (lw_at lw_m7 41 rfl) rfl
theorem q1561 : (Jvm.Cond.instanceMethod ({ cls := "TileOfficeModel", name := "fills", desc := "(II)I" } : Jvm.MethodName)) ∈ lw_all := lw_g (lw_at lw_m7 43 rfl) rfl
theorem q1562 : (Jvm.Cond.selects "TileOfficeModel" ({ cls := "TileOfficeModel", name := "fills", desc := "(II)I" } : Jvm.MethodName) ({ cls := "TileOfficeModel", name := "fills", desc := "(II)I" } : Jvm.MethodName)) ∈ lw_all := lw_g (lw_at lw_m7 44 rfl) rfl
theorem q1563 : (Jvm.Cond.code ({ cls := "TileOfficeModel", name := "fills", desc := "(II)I" } : Jvm.MethodName) prog_12_method_82_code (3 : Nat) (Option.some Jvm.ClassFile.FieldType.int)) ∈ lw_all := lw_g (lw_at lw_m7 45 rfl) rfl
theorem q1565 : (Jvm.Cond.instanceMethod ({ cls := "TileOfficeModel", name := "cheapest", desc := "(I)I" } : Jvm.MethodName)) ∈ lw_all := lw_g (lw_at lw_m7 47 rfl) rfl
theorem q1566 : (Jvm.Cond.selects "TileOfficeModel" ({ cls := "TileOfficeModel", name := "cheapest", desc := "(I)I" } : Jvm.MethodName) ({ cls := "TileOfficeModel", name := "cheapest", desc := "(I)I" } : Jvm.MethodName)) ∈ lw_all := lw_g (lw_at lw_m7 48 rfl) rfl
theorem q1567 : (Jvm.Cond.code ({ cls := "TileOfficeModel", name := "cheapest", desc := "(I)I" } : Jvm.MethodName) prog_12_method_83_code (2 : Nat) (Option.some Jvm.ClassFile.FieldType.int)) ∈ lw_all := lw_g (lw_at lw_m7 49 rfl) rfl
theorem q1568 : (Jvm.Cond.constant "TileOfficeModel" (358 : Nat) (1000000 : Int32)) ∈ lw_all := lw_g (lw_at lw_m7 50 rfl) rfl
theorem q1570 : (Jvm.Cond.instanceMethod ({ cls := "TileOfficeModel", name := "forced", desc := "(I)I" } : Jvm.MethodName)) ∈ lw_all := lw_g (lw_at lw_m7 52 rfl) rfl
theorem q1571 : (Jvm.Cond.selects "TileOfficeModel" ({ cls := "TileOfficeModel", name := "forced", desc := "(I)I" } : Jvm.MethodName) ({ cls := "TileOfficeModel", name := "forced", desc := "(I)I" } : Jvm.MethodName)) ∈ lw_all := lw_g (lw_at lw_m7 53 rfl) rfl
theorem q1572 : (Jvm.Cond.code ({ cls := "TileOfficeModel", name := "forced", desc := "(I)I" } : Jvm.MethodName) prog_12_method_84_code (7 : Nat) (Option.some Jvm.ClassFile.FieldType.int)) ∈ lw_all := lw_g (lw_at lw_m7 54 rfl) rfl
theorem q1574 : (Jvm.Cond.instanceMethod ({ cls := "TileOfficeModel", name := "about", desc := "(I)I" } : Jvm.MethodName)) ∈ lw_all := lw_g (lw_at lw_m7 56 rfl) rfl
theorem q1575 : (Jvm.Cond.selects "TileOfficeModel" ({ cls := "TileOfficeModel", name := "about", desc := "(I)I" } : Jvm.MethodName) ({ cls := "TileOfficeModel", name := "about", desc := "(I)I" } : Jvm.MethodName)) ∈ lw_all := lw_g (lw_at lw_m7 57 rfl) rfl
theorem q1576 : (Jvm.Cond.code ({ cls := "TileOfficeModel", name := "about", desc := "(I)I" } : Jvm.MethodName) prog_12_method_85_code (2 : Nat) (Option.some Jvm.ClassFile.FieldType.int)) ∈ lw_all := lw_g (lw_at lw_m7 58 rfl) rfl
theorem q1583 : (Jvm.Cond.castable "TileOfficeModel" "java/lang/Object") ∈ lw_tbl := lw_at lw_m7 65 rfl
theorem in_X1 : ∀ w ∈ wsX10, w ∈ lw_all := lw_in wsX10 [1127, 1129, 1131, 1133, 1135, 1137, 1139, 1141, 1143, 1145, 1147, 1149, 1151, 1153, 1155, 1157, 1159, 1161, 1163, 1165, 1167, 1169, 1171, 1173, 1175, 1177, 1179, 1181, 1183, 1185, 1187, 1189, 1191, 1193, 1195, 1197, 1199, 1201, 1203, 1205, 1207, 1209, 1211, 1213, 1215, 1217, 1219, 1221, 1223, 1225, 1227, 1229, 1231, 1233, 1235] (by decide +kernel) (by decide +kernel)

/-! java/util/Objects -/
def RJ3 : String := "java/util/Objects"
abbrev cJ3_checkIndex : ByteArray := prog_29_method_17_code
def yJ3_checkIndex : MethodName := ⟨RJ3, "checkIndex", "(II)I"⟩
theorem q84 : (Jvm.Cond.initialized "java/util/Objects") ∈ lw_all := lw_g (lw_at lw_m1 6 rfl) rfl
theorem q215 : (Jvm.Cond.static ({ cls := "java/util/Objects", name := "checkIndex", desc := "(II)I" } : Jvm.MethodName)) ∈ lw_all := lw_g (lw_at lw_m1 137 rfl) rfl
theorem q216 : (Jvm.Cond.code ({ cls := "java/util/Objects", name := "checkIndex", desc := "(II)I" } : Jvm.MethodName) prog_29_method_17_code (2 : Nat) (Option.some Jvm.ClassFile.FieldType.int)) ∈ lw_all := lw_g (lw_at lw_m1 138 rfl) rfl
theorem q217 : (Jvm.Cond.methodLink "java/util/Objects" (105 : Nat) ({ cls := "jdk/internal/util/Preconditions", name := "checkIndex", desc := "(IILjava/util/function/BiFunction;)I" } : Jvm.MethodName)) ∈ lw_all := lw_g (lw_at lw_m1 139 rfl) rfl

/-! jdk/internal/util/Preconditions -/
def RJ4 : String := "jdk/internal/util/Preconditions"
abbrev cJ4_checkIndex : ByteArray := prog_33_method_11_code
def yJ4_checkIndex : MethodName := ⟨RJ4, "checkIndex", "(IILjava/util/function/BiFunction;)I"⟩
theorem q85 : (Jvm.Cond.initialized "jdk/internal/util/Preconditions") ∈ lw_all := lw_g (lw_at lw_m1 7 rfl) rfl
theorem q218 : (Jvm.Cond.static ({ cls := "jdk/internal/util/Preconditions", name := "checkIndex", desc := "(IILjava/util/function/BiFunction;)I" } : Jvm.MethodName)) ∈ lw_all := lw_g (lw_at lw_m1 140 rfl) rfl
theorem q219 : (Jvm.Cond.code ({ cls := "jdk/internal/util/Preconditions", name := "checkIndex", desc := "(IILjava/util/function/BiFunction;)I" } : Jvm.MethodName) prog_33_method_11_code (3 : Nat) (Option.some Jvm.ClassFile.FieldType.int)) ∈ lw_all := lw_g (lw_at lw_m1 141 rfl) rfl

/-! TileOffice$Tile -/
def RX2 : String := "TileOffice$Tile"
def TX2 : u_T := fun k => match k with
  | 0 => ("TileOffice$Tile", "colours", "[I", true)
  | 1 => ("TileOffice$Tile", "turns", "I", true)
  | 2 => ("TileOffice$Tile", "cost", "I", true)
  | 3 => ("TileOffice$Tile", "mirrors", "Z", true)
  | _ => ("TileOffice$Tile", "name", "J", true)
def tyX2 : Nat → FieldType := fun k => match k with
  | 0 => .array .int
  | 1 => .int
  | 2 => .int
  | 3 => .boolean
  | _ => .long
abbrev wsX20 : List Cond := u_ws RX2 TX2 5
theorem nmX2 : ∀ a, a < 5 → ∀ b, b < 5 → a ≠ b → (TX2 a).2.1 ≠ (TX2 b).2.1 := by decide +kernel
theorem tyX2_ok : ∀ k, k < 5 → parseFieldDescriptor (TX2 k).2.2.1 = some (tyX2 k) := by decide +kernel
abbrev cX2_init : ByteArray := prog_10_method_1_code
def yX2_init : MethodName := ⟨RX2, "<init>", "(IIZIJ)V"⟩
abbrev cX2_lies : ByteArray := prog_10_method_2_code
def yX2_lies : MethodName := ⟨RX2, "lies", "(I)I"⟩
abbrev cX2_colour : ByteArray := prog_10_method_3_code
def yX2_colour : MethodName := ⟨RX2, "colour", "(II)I"⟩
theorem q86 : (Jvm.Cond.initialized "TileOffice$Tile") ∈ lw_all := lw_g (lw_at lw_m1 8 rfl) rfl
theorem q231 : (Jvm.Cond.instantiable "TileOffice$Tile" (5 : Nat)) ∈ lw_all := lw_g (lw_at lw_m1 153 rfl) rfl
theorem q233 : (Jvm.Cond.instanceMethod ({ cls := "TileOffice$Tile", name := "<init>", desc := "(IIZIJ)V" } : Jvm.MethodName)) ∈ lw_all := lw_g (lw_at lw_m1 155 rfl) rfl
theorem q234 : (Jvm.Cond.code ({ cls := "TileOffice$Tile", name := "<init>", desc := "(IIZIJ)V" } : Jvm.MethodName) prog_10_method_1_code (8 : Nat) (Option.none : Option Jvm.ClassFile.FieldType)) ∈ lw_all := lw_g (lw_at lw_m1 156 rfl) rfl
theorem q235 : (Jvm.Cond.methodLink "TileOffice$Tile" (1 : Nat) ({ cls := "java/lang/Object", name := "<init>", desc := "()V" } : Jvm.MethodName)) ∈ lw_all := lw_g (lw_at lw_m1 157 rfl) rfl
theorem q236 : (Jvm.Cond.fieldLink "TileOffice$Tile" (7 : Nat) "TileOffice$Tile" "colours" "[I") ∈ lw_all := lw_g (lw_at lw_m1 158 rfl) rfl
theorem q238 : (Jvm.Cond.fieldLink "TileOffice$Tile" (13 : Nat) "TileOffice$Tile" "turns" "I") ∈ lw_all := lw_g (lw_at lw_m1 160 rfl) rfl
theorem q239 : (Jvm.Cond.fieldLink "TileOffice$Tile" (21 : Nat) "TileOffice$Tile" "cost" "I") ∈ lw_all := lw_g (lw_at lw_m1 161 rfl) rfl
theorem q241 : (Jvm.Cond.fieldLink "TileOffice$Tile" (17 : Nat) "TileOffice$Tile" "mirrors" "Z") ∈ lw_all := lw_g (lw_at lw_m1 163 rfl) rfl
theorem q242 : (Jvm.Cond.fieldLink "TileOffice$Tile" (24 : Nat) "TileOffice$Tile" "name" "J") ∈ lw_all := lw_g (lw_at lw_m1 164 rfl) rfl
theorem q244 : (Jvm.Cond.laysFinal "TileOffice$Tile" "TileOffice$Tile" "colours" "[I") ∈ lw_all := lw_g (lw_at lw_m1 166 rfl) rfl
theorem q245 : (Jvm.Cond.soleField "TileOffice$Tile" "colours") ∈ lw_all := lw_g (lw_at lw_m1 167 rfl) rfl
theorem q246 : (Jvm.Cond.laysFinal "TileOffice$Tile" "TileOffice$Tile" "turns" "I") ∈ lw_all := lw_g (lw_at lw_m1 168 rfl) rfl
theorem q247 : (Jvm.Cond.soleField "TileOffice$Tile" "turns") ∈ lw_all := lw_g (lw_at lw_m1 169 rfl) rfl
theorem q248 : (Jvm.Cond.laysFinal "TileOffice$Tile" "TileOffice$Tile" "cost" "I") ∈ lw_all := lw_g (lw_at lw_m1 170 rfl) rfl
theorem q249 : (Jvm.Cond.soleField "TileOffice$Tile" "cost") ∈ lw_all := lw_g (lw_at lw_m1 171 rfl) rfl
theorem q250 : (Jvm.Cond.laysFinal "TileOffice$Tile" "TileOffice$Tile" "mirrors" "Z") ∈ lw_all := lw_g (lw_at lw_m1 172 rfl) rfl
theorem q251 : (Jvm.Cond.soleField "TileOffice$Tile" "mirrors") ∈ lw_all := lw_g (lw_at lw_m1 173 rfl) rfl
theorem q252 : (Jvm.Cond.laysFinal "TileOffice$Tile" "TileOffice$Tile" "name" "J") ∈ lw_all := lw_g (lw_at lw_m1 174 rfl) rfl
theorem q253 : (Jvm.Cond.soleField "TileOffice$Tile" "name") ∈ lw_all := lw_g (lw_at lw_m1 175 rfl) rfl
theorem q254 : (Jvm.Cond.superclass "TileOffice$Tile" "java/lang/Object") ∈ lw_all := lw_g (lw_at lw_m1 176 rfl) rfl
theorem q296 : (Jvm.Cond.selects "TileOffice$Tile" ({ cls := "java/lang/Object", name := "getClass", desc := "()Ljava/lang/Class;" } : Jvm.MethodName) ({ cls := "java/lang/Object", name := "getClass", desc := "()Ljava/lang/Class;" } : Jvm.MethodName)) ∈ lw_all := lw_g (lw_at lw_m1 218 rfl) rfl
theorem q327 : (Jvm.Cond.instanceMethod ({ cls := "TileOffice$Tile", name := "lies", desc := "(I)I" } : Jvm.MethodName)) ∈ lw_all := lw_g (lw_at lw_m2 9 rfl) rfl
theorem q328 : (Jvm.Cond.selects "TileOffice$Tile" ({ cls := "TileOffice$Tile", name := "lies", desc := "(I)I" } : Jvm.MethodName) ({ cls := "TileOffice$Tile", name := "lies", desc := "(I)I" } : Jvm.MethodName)) ∈ lw_all := lw_g (lw_at lw_m2 10 rfl) rfl
theorem q329 : (Jvm.Cond.code ({ cls := "TileOffice$Tile", name := "lies", desc := "(I)I" } : Jvm.MethodName) prog_10_method_2_code (2 : Nat) (Option.some Jvm.ClassFile.FieldType.int)) ∈ lw_all := lw_g (lw_at lw_m2 11 rfl) rfl
theorem q330 : (Jvm.Cond.methodLink "TileOffice$Tile" (28 : Nat) ({ cls := "TileOffice$Moves", name := "turns", desc := "(I)I" } : Jvm.MethodName)) ∈ lw_all := lw_g (lw_at lw_m2 12 rfl) rfl
theorem q334 : (Jvm.Cond.instanceMethod ({ cls := "TileOffice$Tile", name := "colour", desc := "(II)I" } : Jvm.MethodName)) ∈ lw_all := lw_g (lw_at lw_m2 16 rfl) rfl
theorem q335 : (Jvm.Cond.selects "TileOffice$Tile" ({ cls := "TileOffice$Tile", name := "colour", desc := "(II)I" } : Jvm.MethodName) ({ cls := "TileOffice$Tile", name := "colour", desc := "(II)I" } : Jvm.MethodName)) ∈ lw_all := lw_g (lw_at lw_m2 17 rfl) rfl
theorem q336 : (Jvm.Cond.code ({ cls := "TileOffice$Tile", name := "colour", desc := "(II)I" } : Jvm.MethodName) prog_10_method_3_code (3 : Nat) (Option.some Jvm.ClassFile.FieldType.int)) ∈ lw_all := lw_g (lw_at lw_m2 18 rfl) rfl
theorem q337 : (Jvm.Cond.methodLink "TileOffice$Tile" (33 : Nat) ({ cls := "TileOffice$Moves", name := "edge", desc := "(II)I" } : Jvm.MethodName)) ∈ lw_all := lw_g (lw_at lw_m2 19 rfl) rfl
theorem q1584 : (Jvm.Cond.castable "TileOffice$Tile" "java/lang/Object") ∈ lw_tbl := lw_at lw_m7 66 rfl
theorem in_X2 : ∀ w ∈ wsX20, w ∈ lw_all := lw_in wsX20 [244, 246, 248, 250, 252] (by decide +kernel) (by decide +kernel)

/-! jdk/internal/util/ArraysSupport -/
def RJ5 : String := "jdk/internal/util/ArraysSupport"
abbrev cJ5_newLength : ByteArray := prog_32_method_27_code
def yJ5_newLength : MethodName := ⟨RJ5, "newLength", "(III)I"⟩
abbrev cJ5_hugeLength : ByteArray := prog_32_method_28_code
def yJ5_hugeLength : MethodName := ⟨RJ5, "hugeLength", "(II)I"⟩
theorem q87 : (Jvm.Cond.initialized "jdk/internal/util/ArraysSupport") ∈ lw_all := lw_g (lw_at lw_m1 9 rfl) rfl
theorem q273 : (Jvm.Cond.static ({ cls := "jdk/internal/util/ArraysSupport", name := "newLength", desc := "(III)I" } : Jvm.MethodName)) ∈ lw_all := lw_g (lw_at lw_m1 195 rfl) rfl
theorem q274 : (Jvm.Cond.code ({ cls := "jdk/internal/util/ArraysSupport", name := "newLength", desc := "(III)I" } : Jvm.MethodName) prog_32_method_27_code (4 : Nat) (Option.some Jvm.ClassFile.FieldType.int)) ∈ lw_all := lw_g (lw_at lw_m1 196 rfl) rfl
theorem q275 : (Jvm.Cond.methodLink "jdk/internal/util/ArraysSupport" (194 : Nat) ({ cls := "java/lang/Math", name := "max", desc := "(II)I" } : Jvm.MethodName)) ∈ lw_all := lw_g (lw_at lw_m1 197 rfl) rfl
theorem q278 : (Jvm.Cond.constant "jdk/internal/util/ArraysSupport" (200 : Nat) (2147483639 : Int32)) ∈ lw_all := lw_g (lw_at lw_m1 200 rfl) rfl
theorem q279 : (Jvm.Cond.methodLink "jdk/internal/util/ArraysSupport" (201 : Nat) ({ cls := "jdk/internal/util/ArraysSupport", name := "hugeLength", desc := "(II)I" } : Jvm.MethodName)) ∈ lw_all := lw_g (lw_at lw_m1 201 rfl) rfl
theorem q280 : (Jvm.Cond.static ({ cls := "jdk/internal/util/ArraysSupport", name := "hugeLength", desc := "(II)I" } : Jvm.MethodName)) ∈ lw_all := lw_g (lw_at lw_m1 202 rfl) rfl
theorem q281 : (Jvm.Cond.code ({ cls := "jdk/internal/util/ArraysSupport", name := "hugeLength", desc := "(II)I" } : Jvm.MethodName) prog_32_method_28_code (3 : Nat) (Option.some Jvm.ClassFile.FieldType.int)) ∈ lw_all := lw_g (lw_at lw_m1 203 rfl) rfl

/-! java/lang/Math -/
def RJ6 : String := "java/lang/Math"
abbrev cJ6_max : ByteArray := prog_18_method_65_code
def yJ6_max : MethodName := ⟨RJ6, "max", "(II)I"⟩
abbrev cJ6_min : ByteArray := prog_18_method_69_code
def yJ6_min : MethodName := ⟨RJ6, "min", "(II)I"⟩
abbrev cJ6_abs : ByteArray := prog_18_method_59_code
def yJ6_abs : MethodName := ⟨RJ6, "abs", "(I)I"⟩
abbrev cJ6_multiplyExact : ByteArray := prog_18_method_30_code
def yJ6_multiplyExact : MethodName := ⟨RJ6, "multiplyExact", "(JJ)J"⟩
abbrev cJ6_abs_2 : ByteArray := prog_18_method_61_code
def yJ6_abs_2 : MethodName := ⟨RJ6, "abs", "(J)J"⟩
abbrev cJ6_addExact : ByteArray := prog_18_method_25_code
def yJ6_addExact : MethodName := ⟨RJ6, "addExact", "(JJ)J"⟩
theorem q88 : (Jvm.Cond.initialized "java/lang/Math") ∈ lw_all := lw_g (lw_at lw_m1 10 rfl) rfl
theorem q276 : (Jvm.Cond.static ({ cls := "java/lang/Math", name := "max", desc := "(II)I" } : Jvm.MethodName)) ∈ lw_all := lw_g (lw_at lw_m1 198 rfl) rfl
theorem q277 : (Jvm.Cond.code ({ cls := "java/lang/Math", name := "max", desc := "(II)I" } : Jvm.MethodName) prog_18_method_65_code (2 : Nat) (Option.some Jvm.ClassFile.FieldType.int)) ∈ lw_all := lw_g (lw_at lw_m1 199 rfl) rfl
theorem q308 : (Jvm.Cond.static ({ cls := "java/lang/Math", name := "min", desc := "(II)I" } : Jvm.MethodName)) ∈ lw_all := lw_g (lw_at lw_m1 230 rfl) rfl
theorem q309 : (Jvm.Cond.code ({ cls := "java/lang/Math", name := "min", desc := "(II)I" } : Jvm.MethodName) prog_18_method_69_code (2 : Nat) (Option.some Jvm.ClassFile.FieldType.int)) ∈ lw_all := lw_g (lw_at lw_m1 231 rfl) rfl
theorem q653 : (Jvm.Cond.static ({ cls := "java/lang/Math", name := "abs", desc := "(I)I" } : Jvm.MethodName)) ∈ lw_all := lw_g (lw_at lw_m3 95 rfl) rfl
theorem q654 : (Jvm.Cond.code ({ cls := "java/lang/Math", name := "abs", desc := "(I)I" } : Jvm.MethodName) prog_18_method_59_code (1 : Nat) (Option.some Jvm.ClassFile.FieldType.int)) ∈ lw_all := lw_g (lw_at lw_m3 96 rfl) rfl
theorem q764 : (Jvm.Cond.static ({ cls := "java/lang/Math", name := "multiplyExact", desc := "(JJ)J" } : Jvm.MethodName)) ∈ lw_all := lw_g (lw_at lw_m3 206 rfl) rfl
theorem q765 : (Jvm.Cond.code ({ cls := "java/lang/Math", name := "multiplyExact", desc := "(JJ)J" } : Jvm.MethodName) prog_18_method_30_code (10 : Nat) (Option.some Jvm.ClassFile.FieldType.long)) ∈ lw_all := lw_g (lw_at lw_m3 207 rfl) rfl
theorem q766 : (Jvm.Cond.methodLink "java/lang/Math" (122 : Nat) ({ cls := "java/lang/Math", name := "abs", desc := "(J)J" } : Jvm.MethodName)) ∈ lw_all := lw_g (lw_at lw_m3 208 rfl) rfl
theorem q767 : (Jvm.Cond.static ({ cls := "java/lang/Math", name := "abs", desc := "(J)J" } : Jvm.MethodName)) ∈ lw_all := lw_g (lw_at lw_m3 209 rfl) rfl
theorem q768 : (Jvm.Cond.code ({ cls := "java/lang/Math", name := "abs", desc := "(J)J" } : Jvm.MethodName) prog_18_method_61_code (2 : Nat) (Option.some Jvm.ClassFile.FieldType.long)) ∈ lw_all := lw_g (lw_at lw_m3 210 rfl) rfl
theorem q769 : (Jvm.Cond.constantLong "java/lang/Math" (128 : Nat) (-9223372036854775808 : Int64)) ∈ lw_all := lw_g (lw_at lw_m3 211 rfl) rfl
theorem q770 : (Jvm.Cond.constantLong "java/lang/Math" (130 : Nat) (-1 : Int64)) ∈ lw_all := lw_g (lw_at lw_m3 212 rfl) rfl
theorem q771 : (Jvm.Cond.classLink "java/lang/Math" (109 : Nat) "java/lang/ArithmeticException") ∈ lw_all := lw_g (lw_at lw_m3 213 rfl) rfl
theorem q772 : (Jvm.Cond.stringRef "java/lang/Math" (116 : Nat) "long overflow") ∈ lw_tbl := lw_at lw_m3 214 rfl
theorem q773 : (Jvm.Cond.methodLink "java/lang/Math" (113 : Nat) ({ cls := "java/lang/ArithmeticException", name := "<init>", desc := "(Ljava/lang/String;)V" } : Jvm.MethodName)) ∈ lw_all := lw_g (lw_at lw_m3 215 rfl) rfl
theorem q775 : (Jvm.Cond.static ({ cls := "java/lang/Math", name := "addExact", desc := "(JJ)J" } : Jvm.MethodName)) ∈ lw_all := lw_g (lw_at lw_m3 217 rfl) rfl
theorem q776 : (Jvm.Cond.code ({ cls := "java/lang/Math", name := "addExact", desc := "(JJ)J" } : Jvm.MethodName) prog_18_method_25_code (6 : Nat) (Option.some Jvm.ClassFile.FieldType.long)) ∈ lw_all := lw_g (lw_at lw_m3 218 rfl) rfl

/-! java/util/Arrays -/
def RJ7 : String := "java/util/Arrays"
abbrev cJ7_copyOf : ByteArray := prog_26_method_119_code
def yJ7_copyOf : MethodName := ⟨RJ7, "copyOf", "([Ljava/lang/Object;I)[Ljava/lang/Object;"⟩
abbrev cJ7_copyOf_2 : ByteArray := prog_26_method_120_code
def yJ7_copyOf_2 : MethodName := ⟨RJ7, "copyOf", "([Ljava/lang/Object;ILjava/lang/Class;)[Ljava/lang/Object;"⟩
theorem q89 : (Jvm.Cond.initialized "java/util/Arrays") ∈ lw_all := lw_g (lw_at lw_m1 11 rfl) rfl
theorem q283 : (Jvm.Cond.static ({ cls := "java/util/Arrays", name := "copyOf", desc := "([Ljava/lang/Object;I)[Ljava/lang/Object;" } : Jvm.MethodName)) ∈ lw_all := lw_g (lw_at lw_m1 205 rfl) rfl
theorem q284 : (Jvm.Cond.code ({ cls := "java/util/Arrays", name := "copyOf", desc := "([Ljava/lang/Object;I)[Ljava/lang/Object;" } : Jvm.MethodName) prog_26_method_119_code (2 : Nat) (Option.some (Jvm.ClassFile.FieldType.array (Jvm.ClassFile.FieldType.object "java/lang/Object")))) ∈ lw_all := lw_g (lw_at lw_m1 206 rfl) rfl
theorem q285 : (Jvm.Cond.methodLink "java/util/Arrays" (86 : Nat) ({ cls := "java/lang/Object", name := "getClass", desc := "()Ljava/lang/Class;" } : Jvm.MethodName)) ∈ lw_all := lw_g (lw_at lw_m1 207 rfl) rfl
theorem q301 : (Jvm.Cond.methodLink "java/util/Arrays" (300 : Nat) ({ cls := "java/util/Arrays", name := "copyOf", desc := "([Ljava/lang/Object;ILjava/lang/Class;)[Ljava/lang/Object;" } : Jvm.MethodName)) ∈ lw_all := lw_g (lw_at lw_m1 223 rfl) rfl
theorem q302 : (Jvm.Cond.static ({ cls := "java/util/Arrays", name := "copyOf", desc := "([Ljava/lang/Object;ILjava/lang/Class;)[Ljava/lang/Object;" } : Jvm.MethodName)) ∈ lw_all := lw_g (lw_at lw_m1 224 rfl) rfl
theorem q303 : (Jvm.Cond.code ({ cls := "java/util/Arrays", name := "copyOf", desc := "([Ljava/lang/Object;ILjava/lang/Class;)[Ljava/lang/Object;" } : Jvm.MethodName) prog_26_method_120_code (4 : Nat) (Option.some (Jvm.ClassFile.FieldType.array (Jvm.ClassFile.FieldType.object "java/lang/Object")))) ∈ lw_all := lw_g (lw_at lw_m1 225 rfl) rfl
theorem q304 : (Jvm.Cond.classLink "java/util/Arrays" (110 : Nat) "[Ljava/lang/Object;") ∈ lw_all := lw_g (lw_at lw_m1 226 rfl) rfl
theorem q306 : (Jvm.Cond.classLink "java/util/Arrays" (2 : Nat) "java/lang/Object") ∈ lw_all := lw_g (lw_at lw_m1 228 rfl) rfl
theorem q307 : (Jvm.Cond.methodLink "java/util/Arrays" (304 : Nat) ({ cls := "java/lang/Math", name := "min", desc := "(II)I" } : Jvm.MethodName)) ∈ lw_all := lw_g (lw_at lw_m1 229 rfl) rfl
theorem q310 : (Jvm.Cond.methodLink "java/util/Arrays" (150 : Nat) ({ cls := "java/lang/System", name := "arraycopy", desc := "(Ljava/lang/Object;ILjava/lang/Object;II)V" } : Jvm.MethodName)) ∈ lw_all := lw_g (lw_at lw_m1 232 rfl) rfl

/-! TileOffice$Moves -/
def RX3 : String := "TileOffice$Moves"
abbrev cX3_turns : ByteArray := prog_6_method_3_code
def yX3_turns : MethodName := ⟨RX3, "turns", "(I)I"⟩
abbrev cX3_edge : ByteArray := prog_6_method_5_code
def yX3_edge : MethodName := ⟨RX3, "edge", "(II)I"⟩
abbrev cX3_mirror : ByteArray := prog_6_method_2_code
def yX3_mirror : MethodName := ⟨RX3, "mirror", "(I)I"⟩
abbrev cX3_then : ByteArray := prog_6_method_4_code
def yX3_then : MethodName := ⟨RX3, "then", "(II)I"⟩
abbrev cX3_row : ByteArray := prog_6_method_6_code
def yX3_row : MethodName := ⟨RX3, "row", "(IIII)I"⟩
abbrev cX3_column : ByteArray := prog_6_method_7_code
def yX3_column : MethodName := ⟨RX3, "column", "(IIII)I"⟩
theorem q91 : (Jvm.Cond.initialized "TileOffice$Moves") ∈ lw_all := lw_g (lw_at lw_m1 13 rfl) rfl
theorem q331 : (Jvm.Cond.static ({ cls := "TileOffice$Moves", name := "turns", desc := "(I)I" } : Jvm.MethodName)) ∈ lw_all := lw_g (lw_at lw_m2 13 rfl) rfl
theorem q332 : (Jvm.Cond.code ({ cls := "TileOffice$Moves", name := "turns", desc := "(I)I" } : Jvm.MethodName) prog_6_method_3_code (1 : Nat) (Option.some Jvm.ClassFile.FieldType.int)) ∈ lw_all := lw_g (lw_at lw_m2 14 rfl) rfl
theorem q338 : (Jvm.Cond.static ({ cls := "TileOffice$Moves", name := "edge", desc := "(II)I" } : Jvm.MethodName)) ∈ lw_all := lw_g (lw_at lw_m2 20 rfl) rfl
theorem q339 : (Jvm.Cond.code ({ cls := "TileOffice$Moves", name := "edge", desc := "(II)I" } : Jvm.MethodName) prog_6_method_5_code (3 : Nat) (Option.some Jvm.ClassFile.FieldType.int)) ∈ lw_all := lw_g (lw_at lw_m2 21 rfl) rfl
theorem q340 : (Jvm.Cond.methodLink "TileOffice$Moves" (13 : Nat) ({ cls := "TileOffice$Moves", name := "turns", desc := "(I)I" } : Jvm.MethodName)) ∈ lw_all := lw_g (lw_at lw_m2 22 rfl) rfl
theorem q341 : (Jvm.Cond.methodLink "TileOffice$Moves" (7 : Nat) ({ cls := "TileOffice$Moves", name := "mirror", desc := "(I)I" } : Jvm.MethodName)) ∈ lw_all := lw_g (lw_at lw_m2 23 rfl) rfl
theorem q342 : (Jvm.Cond.static ({ cls := "TileOffice$Moves", name := "mirror", desc := "(I)I" } : Jvm.MethodName)) ∈ lw_all := lw_g (lw_at lw_m2 24 rfl) rfl
theorem q343 : (Jvm.Cond.code ({ cls := "TileOffice$Moves", name := "mirror", desc := "(I)I" } : Jvm.MethodName) prog_6_method_2_code (1 : Nat) (Option.some Jvm.ClassFile.FieldType.int)) ∈ lw_all := lw_g (lw_at lw_m2 25 rfl) rfl
theorem q349 : (Jvm.Cond.static ({ cls := "TileOffice$Moves", name := "then", desc := "(II)I" } : Jvm.MethodName)) ∈ lw_all := lw_g (lw_at lw_m2 31 rfl) rfl
theorem q350 : (Jvm.Cond.code ({ cls := "TileOffice$Moves", name := "then", desc := "(II)I" } : Jvm.MethodName) prog_6_method_4_code (3 : Nat) (Option.some Jvm.ClassFile.FieldType.int)) ∈ lw_all := lw_g (lw_at lw_m2 32 rfl) rfl
theorem q591 : (Jvm.Cond.static ({ cls := "TileOffice$Moves", name := "row", desc := "(IIII)I" } : Jvm.MethodName)) ∈ lw_all := lw_g (lw_at lw_m3 33 rfl) rfl
theorem q592 : (Jvm.Cond.code ({ cls := "TileOffice$Moves", name := "row", desc := "(IIII)I" } : Jvm.MethodName) prog_6_method_6_code (4 : Nat) (Option.some Jvm.ClassFile.FieldType.int)) ∈ lw_all := lw_g (lw_at lw_m3 34 rfl) rfl
theorem q594 : (Jvm.Cond.static ({ cls := "TileOffice$Moves", name := "column", desc := "(IIII)I" } : Jvm.MethodName)) ∈ lw_all := lw_g (lw_at lw_m3 36 rfl) rfl
theorem q595 : (Jvm.Cond.code ({ cls := "TileOffice$Moves", name := "column", desc := "(IIII)I" } : Jvm.MethodName) prog_6_method_7_code (5 : Nat) (Option.some Jvm.ClassFile.FieldType.int)) ∈ lw_all := lw_g (lw_at lw_m3 37 rfl) rfl

/-! TileOffice$Pattern -/
def RX4 : String := "TileOffice$Pattern"
def TX4 : u_T := fun k => match k with
  | _ => ("TileOffice$Pattern", "rows", "Ljava/util/ArrayList;", false)
def tyX4 : Nat → FieldType := fun k => match k with
  | _ => .object "java/util/ArrayList"
abbrev wsX40 : List Cond := u_ws RX4 TX4 1
theorem nmX4 : ∀ a, a < 1 → ∀ b, b < 1 → a ≠ b → (TX4 a).2.1 ≠ (TX4 b).2.1 := by decide +kernel
theorem tyX4_ok : ∀ k, k < 1 → parseFieldDescriptor (TX4 k).2.2.1 = some (tyX4 k) := by decide +kernel
abbrev cX4_init : ByteArray := prog_7_method_1_code
def yX4_init : MethodName := ⟨RX4, "<init>", "()V"⟩
abbrev cX4_row : ByteArray := prog_7_method_2_code
def yX4_row : MethodName := ⟨RX4, "row", "(I)LTileOffice$Row;"⟩
abbrev cX4_at : ByteArray := prog_7_method_3_code
def yX4_at : MethodName := ⟨RX4, "at", "(II)LTileOffice$Row;"⟩
abbrev cX4_isFull : ByteArray := prog_7_method_5_code
def yX4_isFull : MethodName := ⟨RX4, "isFull", "()Z"⟩
abbrev cX4_columns : ByteArray := prog_7_method_6_code
def yX4_columns : MethodName := ⟨RX4, "columns", "()I"⟩
theorem q92 : (Jvm.Cond.initialized "TileOffice$Pattern") ∈ lw_all := lw_g (lw_at lw_m1 14 rfl) rfl
theorem q293 : (Jvm.Cond.selects "TileOffice$Pattern" ({ cls := "java/lang/Object", name := "getClass", desc := "()Ljava/lang/Class;" } : Jvm.MethodName) ({ cls := "java/lang/Object", name := "getClass", desc := "()Ljava/lang/Class;" } : Jvm.MethodName)) ∈ lw_all := lw_g (lw_at lw_m1 215 rfl) rfl
theorem q356 : (Jvm.Cond.instantiable "TileOffice$Pattern" (1 : Nat)) ∈ lw_all := lw_g (lw_at lw_m2 38 rfl) rfl
theorem q358 : (Jvm.Cond.instanceMethod ({ cls := "TileOffice$Pattern", name := "<init>", desc := "()V" } : Jvm.MethodName)) ∈ lw_all := lw_g (lw_at lw_m2 40 rfl) rfl
theorem q359 : (Jvm.Cond.code ({ cls := "TileOffice$Pattern", name := "<init>", desc := "()V" } : Jvm.MethodName) prog_7_method_1_code (1 : Nat) (Option.none : Option Jvm.ClassFile.FieldType)) ∈ lw_all := lw_g (lw_at lw_m2 41 rfl) rfl
theorem q360 : (Jvm.Cond.methodLink "TileOffice$Pattern" (1 : Nat) ({ cls := "java/lang/Object", name := "<init>", desc := "()V" } : Jvm.MethodName)) ∈ lw_all := lw_g (lw_at lw_m2 42 rfl) rfl
theorem q361 : (Jvm.Cond.classLink "TileOffice$Pattern" (7 : Nat) "java/util/ArrayList") ∈ lw_all := lw_g (lw_at lw_m2 43 rfl) rfl
theorem q362 : (Jvm.Cond.methodLink "TileOffice$Pattern" (9 : Nat) ({ cls := "java/util/ArrayList", name := "<init>", desc := "()V" } : Jvm.MethodName)) ∈ lw_all := lw_g (lw_at lw_m2 44 rfl) rfl
theorem q363 : (Jvm.Cond.fieldLink "TileOffice$Pattern" (10 : Nat) "TileOffice$Pattern" "rows" "Ljava/util/ArrayList;") ∈ lw_all := lw_g (lw_at lw_m2 45 rfl) rfl
theorem q366 : (Jvm.Cond.lays "TileOffice$Pattern" "TileOffice$Pattern" "rows" "Ljava/util/ArrayList;") ∈ lw_all := lw_g (lw_at lw_m2 48 rfl) rfl
theorem q367 : (Jvm.Cond.soleField "TileOffice$Pattern" "rows") ∈ lw_all := lw_g (lw_at lw_m2 49 rfl) rfl
theorem q368 : (Jvm.Cond.superclass "TileOffice$Pattern" "java/lang/Object") ∈ lw_all := lw_g (lw_at lw_m2 50 rfl) rfl
theorem q432 : (Jvm.Cond.fieldLink "TileOffice$Pattern" (34 : Nat) "TileOffice$Row" "kinds" "[B") ∈ lw_all := lw_g (lw_at lw_m2 114 rfl) rfl
theorem q439 : (Jvm.Cond.fieldLink "TileOffice$Pattern" (42 : Nat) "TileOffice$Row" "offset" "I") ∈ lw_all := lw_g (lw_at lw_m2 121 rfl) rfl
theorem q466 : (Jvm.Cond.instanceMethod ({ cls := "TileOffice$Pattern", name := "row", desc := "(I)LTileOffice$Row;" } : Jvm.MethodName)) ∈ lw_all := lw_g (lw_at lw_m2 148 rfl) rfl
theorem q467 : (Jvm.Cond.selects "TileOffice$Pattern" ({ cls := "TileOffice$Pattern", name := "row", desc := "(I)LTileOffice$Row;" } : Jvm.MethodName) ({ cls := "TileOffice$Pattern", name := "row", desc := "(I)LTileOffice$Row;" } : Jvm.MethodName)) ∈ lw_all := lw_g (lw_at lw_m2 149 rfl) rfl
theorem q468 : (Jvm.Cond.code ({ cls := "TileOffice$Pattern", name := "row", desc := "(I)LTileOffice$Row;" } : Jvm.MethodName) prog_7_method_2_code (2 : Nat) (Option.some (Jvm.ClassFile.FieldType.object "TileOffice$Row"))) ∈ lw_all := lw_g (lw_at lw_m2 150 rfl) rfl
theorem q469 : (Jvm.Cond.methodLink "TileOffice$Pattern" (16 : Nat) ({ cls := "java/util/ArrayList", name := "size", desc := "()I" } : Jvm.MethodName)) ∈ lw_all := lw_g (lw_at lw_m2 151 rfl) rfl
theorem q470 : (Jvm.Cond.methodLink "TileOffice$Pattern" (20 : Nat) ({ cls := "java/util/ArrayList", name := "get", desc := "(I)Ljava/lang/Object;" } : Jvm.MethodName)) ∈ lw_all := lw_g (lw_at lw_m2 152 rfl) rfl
theorem q471 : (Jvm.Cond.classLink "TileOffice$Pattern" (24 : Nat) "TileOffice$Row") ∈ lw_all := lw_g (lw_at lw_m2 153 rfl) rfl
theorem q489 : (Jvm.Cond.instanceMethod ({ cls := "TileOffice$Pattern", name := "at", desc := "(II)LTileOffice$Row;" } : Jvm.MethodName)) ∈ lw_all := lw_g (lw_at lw_m2 171 rfl) rfl
theorem q490 : (Jvm.Cond.selects "TileOffice$Pattern" ({ cls := "TileOffice$Pattern", name := "at", desc := "(II)LTileOffice$Row;" } : Jvm.MethodName) ({ cls := "TileOffice$Pattern", name := "at", desc := "(II)LTileOffice$Row;" } : Jvm.MethodName)) ∈ lw_all := lw_g (lw_at lw_m2 172 rfl) rfl
theorem q491 : (Jvm.Cond.code ({ cls := "TileOffice$Pattern", name := "at", desc := "(II)LTileOffice$Row;" } : Jvm.MethodName) prog_7_method_3_code (4 : Nat) (Option.some (Jvm.ClassFile.FieldType.object "TileOffice$Row"))) ∈ lw_all := lw_g (lw_at lw_m2 173 rfl) rfl
theorem q492 : (Jvm.Cond.methodLink "TileOffice$Pattern" (26 : Nat) ({ cls := "TileOffice$Pattern", name := "row", desc := "(I)LTileOffice$Row;" } : Jvm.MethodName)) ∈ lw_all := lw_g (lw_at lw_m2 174 rfl) rfl
theorem q493 : (Jvm.Cond.methodLink "TileOffice$Pattern" (30 : Nat) ({ cls := "TileOffice$Row", name := "has", desc := "(I)Z" } : Jvm.MethodName)) ∈ lw_all := lw_g (lw_at lw_m2 175 rfl) rfl
theorem q824 : (Jvm.Cond.instanceMethod ({ cls := "TileOffice$Pattern", name := "isFull", desc := "()Z" } : Jvm.MethodName)) ∈ lw_all := lw_g (lw_at lw_m4 26 rfl) rfl
theorem q825 : (Jvm.Cond.selects "TileOffice$Pattern" ({ cls := "TileOffice$Pattern", name := "isFull", desc := "()Z" } : Jvm.MethodName) ({ cls := "TileOffice$Pattern", name := "isFull", desc := "()Z" } : Jvm.MethodName)) ∈ lw_all := lw_g (lw_at lw_m4 27 rfl) rfl
theorem q826 : (Jvm.Cond.code ({ cls := "TileOffice$Pattern", name := "isFull", desc := "()Z" } : Jvm.MethodName) prog_7_method_5_code (4 : Nat) (Option.some Jvm.ClassFile.FieldType.boolean)) ∈ lw_all := lw_g (lw_at lw_m4 28 rfl) rfl
theorem q827 : (Jvm.Cond.methodLink "TileOffice$Pattern" (38 : Nat) ({ cls := "java/util/ArrayList", name := "isEmpty", desc := "()Z" } : Jvm.MethodName)) ∈ lw_all := lw_g (lw_at lw_m4 29 rfl) rfl
theorem q839 : (Jvm.Cond.instanceMethod ({ cls := "TileOffice$Pattern", name := "columns", desc := "()I" } : Jvm.MethodName)) ∈ lw_all := lw_g (lw_at lw_m4 41 rfl) rfl
theorem q840 : (Jvm.Cond.selects "TileOffice$Pattern" ({ cls := "TileOffice$Pattern", name := "columns", desc := "()I" } : Jvm.MethodName) ({ cls := "TileOffice$Pattern", name := "columns", desc := "()I" } : Jvm.MethodName)) ∈ lw_all := lw_g (lw_at lw_m4 42 rfl) rfl
theorem q841 : (Jvm.Cond.code ({ cls := "TileOffice$Pattern", name := "columns", desc := "()I" } : Jvm.MethodName) prog_7_method_6_code (1 : Nat) (Option.some Jvm.ClassFile.FieldType.int)) ∈ lw_all := lw_g (lw_at lw_m4 43 rfl) rfl
theorem q1585 : (Jvm.Cond.castable "TileOffice$Pattern" "java/lang/Object") ∈ lw_tbl := lw_at lw_m7 67 rfl
theorem in_X4 : ∀ w ∈ wsX40, w ∈ lw_all := lw_in wsX40 [366] (by decide +kernel) (by decide +kernel)

/-! TileOffice$Change -/
def RX5 : String := "TileOffice$Change"
def TX5 : u_T := fun k => match k with
  | 0 => ("TileOffice$Change", "of", "LTileOffice$Pattern;", true)
  | _ => ("TileOffice$Change", "rows", "Ljava/util/ArrayList;", true)
def tyX5 : Nat → FieldType := fun k => match k with
  | 0 => .object "TileOffice$Pattern"
  | _ => .object "java/util/ArrayList"
abbrev wsX50 : List Cond := u_ws RX5 TX5 2
theorem nmX5 : ∀ a, a < 2 → ∀ b, b < 2 → a ≠ b → (TX5 a).2.1 ≠ (TX5 b).2.1 := by decide +kernel
theorem tyX5_ok : ∀ k, k < 2 → parseFieldDescriptor (TX5 k).2.2.1 = some (tyX5 k) := by decide +kernel
abbrev cX5_init : ByteArray := prog_4_method_1_code
def yX5_init : MethodName := ⟨RX5, "<init>", "(LTileOffice$Pattern;)V"⟩
theorem q93 : (Jvm.Cond.initialized "TileOffice$Change") ∈ lw_all := lw_g (lw_at lw_m1 15 rfl) rfl
theorem q291 : (Jvm.Cond.selects "TileOffice$Change" ({ cls := "java/lang/Object", name := "getClass", desc := "()Ljava/lang/Class;" } : Jvm.MethodName) ({ cls := "java/lang/Object", name := "getClass", desc := "()Ljava/lang/Class;" } : Jvm.MethodName)) ∈ lw_all := lw_g (lw_at lw_m1 213 rfl) rfl
theorem q364 : (Jvm.Cond.fieldLink "TileOffice$Change" (15 : Nat) "TileOffice$Pattern" "rows" "Ljava/util/ArrayList;") ∈ lw_all := lw_g (lw_at lw_m2 46 rfl) rfl
theorem q386 : (Jvm.Cond.instantiable "TileOffice$Change" (2 : Nat)) ∈ lw_all := lw_g (lw_at lw_m2 68 rfl) rfl
theorem q388 : (Jvm.Cond.instanceMethod ({ cls := "TileOffice$Change", name := "<init>", desc := "(LTileOffice$Pattern;)V" } : Jvm.MethodName)) ∈ lw_all := lw_g (lw_at lw_m2 70 rfl) rfl
theorem q389 : (Jvm.Cond.code ({ cls := "TileOffice$Change", name := "<init>", desc := "(LTileOffice$Pattern;)V" } : Jvm.MethodName) prog_4_method_1_code (2 : Nat) (Option.none : Option Jvm.ClassFile.FieldType)) ∈ lw_all := lw_g (lw_at lw_m2 71 rfl) rfl
theorem q390 : (Jvm.Cond.methodLink "TileOffice$Change" (1 : Nat) ({ cls := "java/lang/Object", name := "<init>", desc := "()V" } : Jvm.MethodName)) ∈ lw_all := lw_g (lw_at lw_m2 72 rfl) rfl
theorem q391 : (Jvm.Cond.classLink "TileOffice$Change" (13 : Nat) "java/util/ArrayList") ∈ lw_all := lw_g (lw_at lw_m2 73 rfl) rfl
theorem q392 : (Jvm.Cond.methodLink "TileOffice$Change" (21 : Nat) ({ cls := "java/util/ArrayList", name := "<init>", desc := "(Ljava/util/Collection;)V" } : Jvm.MethodName)) ∈ lw_all := lw_g (lw_at lw_m2 74 rfl) rfl
theorem q416 : (Jvm.Cond.fieldLink "TileOffice$Change" (7 : Nat) "TileOffice$Change" "of" "LTileOffice$Pattern;") ∈ lw_all := lw_g (lw_at lw_m2 98 rfl) rfl
theorem q418 : (Jvm.Cond.fieldLink "TileOffice$Change" (24 : Nat) "TileOffice$Change" "rows" "Ljava/util/ArrayList;") ∈ lw_all := lw_g (lw_at lw_m2 100 rfl) rfl
theorem q420 : (Jvm.Cond.laysFinal "TileOffice$Change" "TileOffice$Change" "of" "LTileOffice$Pattern;") ∈ lw_all := lw_g (lw_at lw_m2 102 rfl) rfl
theorem q421 : (Jvm.Cond.soleField "TileOffice$Change" "of") ∈ lw_all := lw_g (lw_at lw_m2 103 rfl) rfl
theorem q422 : (Jvm.Cond.laysFinal "TileOffice$Change" "TileOffice$Change" "rows" "Ljava/util/ArrayList;") ∈ lw_all := lw_g (lw_at lw_m2 104 rfl) rfl
theorem q423 : (Jvm.Cond.soleField "TileOffice$Change" "rows") ∈ lw_all := lw_g (lw_at lw_m2 105 rfl) rfl
theorem q424 : (Jvm.Cond.superclass "TileOffice$Change" "java/lang/Object") ∈ lw_all := lw_g (lw_at lw_m2 106 rfl) rfl
theorem q1579 : (Jvm.Cond.castable "TileOffice$Change" "java/lang/Object") ∈ lw_tbl := lw_at lw_m7 61 rfl
theorem in_X5 : ∀ w ∈ wsX50, w ∈ lw_all := lw_in wsX50 [420, 422] (by decide +kernel) (by decide +kernel)

/-! TileOffice$Row -/
def RX6 : String := "TileOffice$Row"
def TX6 : u_T := fun k => match k with
  | 0 => ("TileOffice$Row", "kinds", "[B", true)
  | 1 => ("TileOffice$Row", "moves", "[B", true)
  | 2 => ("TileOffice$Row", "shades", "[S", true)
  | _ => ("TileOffice$Row", "offset", "I", true)
def tyX6 : Nat → FieldType := fun k => match k with
  | 0 => .array .byte
  | 1 => .array .byte
  | 2 => .array .short
  | _ => .int
abbrev wsX60 : List Cond := u_ws RX6 TX6 4
theorem nmX6 : ∀ a, a < 4 → ∀ b, b < 4 → a ≠ b → (TX6 a).2.1 ≠ (TX6 b).2.1 := by decide +kernel
theorem tyX6_ok : ∀ k, k < 4 → parseFieldDescriptor (TX6 k).2.2.1 = some (tyX6 k) := by decide +kernel
abbrev cX6_init : ByteArray := prog_8_method_1_code
def yX6_init : MethodName := ⟨RX6, "<init>", "(II)V"⟩
abbrev cX6_has : ByteArray := prog_8_method_3_code
def yX6_has : MethodName := ⟨RX6, "has", "(I)Z"⟩
abbrev cX6_init_2 : ByteArray := prog_8_method_2_code
def yX6_init_2 : MethodName := ⟨RX6, "<init>", "(LTileOffice$Row;)V"⟩
abbrev cX6_set : ByteArray := prog_8_method_4_code
def yX6_set : MethodName := ⟨RX6, "set", "(IIII)V"⟩
theorem q94 : (Jvm.Cond.initialized "TileOffice$Row") ∈ lw_all := lw_g (lw_at lw_m1 16 rfl) rfl
theorem q294 : (Jvm.Cond.selects "TileOffice$Row" ({ cls := "java/lang/Object", name := "getClass", desc := "()Ljava/lang/Class;" } : Jvm.MethodName) ({ cls := "java/lang/Object", name := "getClass", desc := "()Ljava/lang/Class;" } : Jvm.MethodName)) ∈ lw_all := lw_g (lw_at lw_m1 216 rfl) rfl
theorem q426 : (Jvm.Cond.instantiable "TileOffice$Row" (4 : Nat)) ∈ lw_all := lw_g (lw_at lw_m2 108 rfl) rfl
theorem q428 : (Jvm.Cond.instanceMethod ({ cls := "TileOffice$Row", name := "<init>", desc := "(II)V" } : Jvm.MethodName)) ∈ lw_all := lw_g (lw_at lw_m2 110 rfl) rfl
theorem q429 : (Jvm.Cond.code ({ cls := "TileOffice$Row", name := "<init>", desc := "(II)V" } : Jvm.MethodName) prog_8_method_1_code (4 : Nat) (Option.none : Option Jvm.ClassFile.FieldType)) ∈ lw_all := lw_g (lw_at lw_m2 111 rfl) rfl
theorem q430 : (Jvm.Cond.methodLink "TileOffice$Row" (3 : Nat) ({ cls := "java/lang/Object", name := "<init>", desc := "()V" } : Jvm.MethodName)) ∈ lw_all := lw_g (lw_at lw_m2 112 rfl) rfl
theorem q431 : (Jvm.Cond.fieldLink "TileOffice$Row" (9 : Nat) "TileOffice$Row" "kinds" "[B") ∈ lw_all := lw_g (lw_at lw_m2 113 rfl) rfl
theorem q434 : (Jvm.Cond.fieldLink "TileOffice$Row" (15 : Nat) "TileOffice$Row" "moves" "[B") ∈ lw_all := lw_g (lw_at lw_m2 116 rfl) rfl
theorem q436 : (Jvm.Cond.fieldLink "TileOffice$Row" (18 : Nat) "TileOffice$Row" "shades" "[S") ∈ lw_all := lw_g (lw_at lw_m2 118 rfl) rfl
theorem q438 : (Jvm.Cond.fieldLink "TileOffice$Row" (22 : Nat) "TileOffice$Row" "offset" "I") ∈ lw_all := lw_g (lw_at lw_m2 120 rfl) rfl
theorem q441 : (Jvm.Cond.laysFinal "TileOffice$Row" "TileOffice$Row" "kinds" "[B") ∈ lw_all := lw_g (lw_at lw_m2 123 rfl) rfl
theorem q442 : (Jvm.Cond.soleField "TileOffice$Row" "kinds") ∈ lw_all := lw_g (lw_at lw_m2 124 rfl) rfl
theorem q443 : (Jvm.Cond.laysFinal "TileOffice$Row" "TileOffice$Row" "moves" "[B") ∈ lw_all := lw_g (lw_at lw_m2 125 rfl) rfl
theorem q444 : (Jvm.Cond.soleField "TileOffice$Row" "moves") ∈ lw_all := lw_g (lw_at lw_m2 126 rfl) rfl
theorem q445 : (Jvm.Cond.laysFinal "TileOffice$Row" "TileOffice$Row" "shades" "[S") ∈ lw_all := lw_g (lw_at lw_m2 127 rfl) rfl
theorem q446 : (Jvm.Cond.soleField "TileOffice$Row" "shades") ∈ lw_all := lw_g (lw_at lw_m2 128 rfl) rfl
theorem q447 : (Jvm.Cond.laysFinal "TileOffice$Row" "TileOffice$Row" "offset" "I") ∈ lw_all := lw_g (lw_at lw_m2 129 rfl) rfl
theorem q448 : (Jvm.Cond.soleField "TileOffice$Row" "offset") ∈ lw_all := lw_g (lw_at lw_m2 130 rfl) rfl
theorem q449 : (Jvm.Cond.superclass "TileOffice$Row" "java/lang/Object") ∈ lw_all := lw_g (lw_at lw_m2 131 rfl) rfl
theorem q494 : (Jvm.Cond.instanceMethod ({ cls := "TileOffice$Row", name := "has", desc := "(I)Z" } : Jvm.MethodName)) ∈ lw_all := lw_g (lw_at lw_m2 176 rfl) rfl
theorem q495 : (Jvm.Cond.selects "TileOffice$Row" ({ cls := "TileOffice$Row", name := "has", desc := "(I)Z" } : Jvm.MethodName) ({ cls := "TileOffice$Row", name := "has", desc := "(I)Z" } : Jvm.MethodName)) ∈ lw_all := lw_g (lw_at lw_m2 177 rfl) rfl
theorem q496 : (Jvm.Cond.code ({ cls := "TileOffice$Row", name := "has", desc := "(I)Z" } : Jvm.MethodName) prog_8_method_3_code (2 : Nat) (Option.some Jvm.ClassFile.FieldType.boolean)) ∈ lw_all := lw_g (lw_at lw_m2 178 rfl) rfl
theorem q502 : (Jvm.Cond.instanceMethod ({ cls := "TileOffice$Row", name := "<init>", desc := "(LTileOffice$Row;)V" } : Jvm.MethodName)) ∈ lw_all := lw_g (lw_at lw_m2 184 rfl) rfl
theorem q503 : (Jvm.Cond.code ({ cls := "TileOffice$Row", name := "<init>", desc := "(LTileOffice$Row;)V" } : Jvm.MethodName) prog_8_method_2_code (2 : Nat) (Option.none : Option Jvm.ClassFile.FieldType)) ∈ lw_all := lw_g (lw_at lw_m2 185 rfl) rfl
theorem q504 : (Jvm.Cond.methodLink "TileOffice$Row" (26 : Nat) ({ cls := "[B", name := "clone", desc := "()Ljava/lang/Object;" } : Jvm.MethodName)) ∈ lw_all := lw_g (lw_at lw_m2 186 rfl) rfl
theorem q510 : (Jvm.Cond.classLink "TileOffice$Row" (27 : Nat) "[B") ∈ lw_all := lw_g (lw_at lw_m2 192 rfl) rfl
theorem q511 : (Jvm.Cond.methodLink "TileOffice$Row" (31 : Nat) ({ cls := "[S", name := "clone", desc := "()Ljava/lang/Object;" } : Jvm.MethodName)) ∈ lw_all := lw_g (lw_at lw_m2 193 rfl) rfl
theorem q515 : (Jvm.Cond.classLink "TileOffice$Row" (32 : Nat) "[S") ∈ lw_all := lw_g (lw_at lw_m2 197 rfl) rfl
theorem q521 : (Jvm.Cond.instanceMethod ({ cls := "TileOffice$Row", name := "set", desc := "(IIII)V" } : Jvm.MethodName)) ∈ lw_all := lw_g (lw_at lw_m2 203 rfl) rfl
theorem q522 : (Jvm.Cond.selects "TileOffice$Row" ({ cls := "TileOffice$Row", name := "set", desc := "(IIII)V" } : Jvm.MethodName) ({ cls := "TileOffice$Row", name := "set", desc := "(IIII)V" } : Jvm.MethodName)) ∈ lw_all := lw_g (lw_at lw_m2 204 rfl) rfl
theorem q523 : (Jvm.Cond.code ({ cls := "TileOffice$Row", name := "set", desc := "(IIII)V" } : Jvm.MethodName) prog_8_method_4_code (5 : Nat) (Option.none : Option Jvm.ClassFile.FieldType)) ∈ lw_all := lw_g (lw_at lw_m2 205 rfl) rfl
theorem q1586 : (Jvm.Cond.castable "TileOffice$Row" "java/lang/Object") ∈ lw_tbl := lw_at lw_m7 68 rfl
theorem in_X6 : ∀ w ∈ wsX60, w ∈ lw_all := lw_in wsX60 [441, 443, 445, 447] (by decide +kernel) (by decide +kernel)

/-! TileOffice$Block -/
def RX7 : String := "TileOffice$Block"
def TX7 : u_T := fun k => match k with
  | 0 => ("TileOffice$Block", "kinds", "[[B", true)
  | 1 => ("TileOffice$Block", "moves", "[[B", true)
  | _ => ("TileOffice$Block", "shades", "[[S", true)
def tyX7 : Nat → FieldType := fun k => match k with
  | 0 => .array (.array .byte)
  | 1 => .array (.array .byte)
  | _ => .array (.array .short)
abbrev wsX70 : List Cond := u_ws RX7 TX7 3
theorem nmX7 : ∀ a, a < 3 → ∀ b, b < 3 → a ≠ b → (TX7 a).2.1 ≠ (TX7 b).2.1 := by decide +kernel
theorem tyX7_ok : ∀ k, k < 3 → parseFieldDescriptor (TX7 k).2.2.1 = some (tyX7 k) := by decide +kernel
abbrev cX7_init : ByteArray := prog_3_method_1_code
def yX7_init : MethodName := ⟨RX7, "<init>", "(II)V"⟩
abbrev cX7_moved : ByteArray := prog_3_method_4_code
def yX7_moved : MethodName := ⟨RX7, "moved", "(ILTileOffice;)LTileOffice$Block;"⟩
abbrev cX7_rows : ByteArray := prog_3_method_2_code
def yX7_rows : MethodName := ⟨RX7, "rows", "()I"⟩
abbrev cX7_columns : ByteArray := prog_3_method_3_code
def yX7_columns : MethodName := ⟨RX7, "columns", "()I"⟩
theorem q95 : (Jvm.Cond.initialized "TileOffice$Block") ∈ lw_all := lw_g (lw_at lw_m1 17 rfl) rfl
theorem q146 : (Jvm.Cond.fieldLinkNest "TileOffice$Block" (43 : Nat) "TileOffice" "kinds" "Ljava/util/ArrayList;" "TileOffice") ∈ lw_tbl := lw_at lw_m1 68 rfl
theorem q290 : (Jvm.Cond.selects "TileOffice$Block" ({ cls := "java/lang/Object", name := "getClass", desc := "()Ljava/lang/Class;" } : Jvm.MethodName) ({ cls := "java/lang/Object", name := "getClass", desc := "()Ljava/lang/Class;" } : Jvm.MethodName)) ∈ lw_all := lw_g (lw_at lw_m1 212 rfl) rfl
theorem q550 : (Jvm.Cond.instantiable "TileOffice$Block" (3 : Nat)) ∈ lw_all := lw_g (lw_at lw_m2 232 rfl) rfl
theorem q552 : (Jvm.Cond.instanceMethod ({ cls := "TileOffice$Block", name := "<init>", desc := "(II)V" } : Jvm.MethodName)) ∈ lw_all := lw_g (lw_at lw_m2 234 rfl) rfl
theorem q553 : (Jvm.Cond.code ({ cls := "TileOffice$Block", name := "<init>", desc := "(II)V" } : Jvm.MethodName) prog_3_method_1_code (8 : Nat) (Option.none : Option Jvm.ClassFile.FieldType)) ∈ lw_all := lw_g (lw_at lw_m2 235 rfl) rfl
theorem q554 : (Jvm.Cond.methodLink "TileOffice$Block" (3 : Nat) ({ cls := "java/lang/Object", name := "<init>", desc := "()V" } : Jvm.MethodName)) ∈ lw_all := lw_g (lw_at lw_m2 236 rfl) rfl
theorem q555 : (Jvm.Cond.classLink "TileOffice$Block" (9 : Nat) "[[B") ∈ lw_all := lw_g (lw_at lw_m2 237 rfl) rfl
theorem q557 : (Jvm.Cond.classLink "TileOffice$Block" (19 : Nat) "[[S") ∈ lw_all := lw_g (lw_at lw_m2 239 rfl) rfl
theorem q559 : (Jvm.Cond.fieldLink "TileOffice$Block" (11 : Nat) "TileOffice$Block" "kinds" "[[B") ∈ lw_all := lw_g (lw_at lw_m3 1 rfl) rfl
theorem q561 : (Jvm.Cond.fieldLink "TileOffice$Block" (16 : Nat) "TileOffice$Block" "moves" "[[B") ∈ lw_all := lw_g (lw_at lw_m3 3 rfl) rfl
theorem q563 : (Jvm.Cond.fieldLink "TileOffice$Block" (21 : Nat) "TileOffice$Block" "shades" "[[S") ∈ lw_all := lw_g (lw_at lw_m3 5 rfl) rfl
theorem q565 : (Jvm.Cond.laysFinal "TileOffice$Block" "TileOffice$Block" "kinds" "[[B") ∈ lw_all := lw_g (lw_at lw_m3 7 rfl) rfl
theorem q566 : (Jvm.Cond.soleField "TileOffice$Block" "kinds") ∈ lw_all := lw_g (lw_at lw_m3 8 rfl) rfl
theorem q567 : (Jvm.Cond.laysFinal "TileOffice$Block" "TileOffice$Block" "moves" "[[B") ∈ lw_all := lw_g (lw_at lw_m3 9 rfl) rfl
theorem q568 : (Jvm.Cond.soleField "TileOffice$Block" "moves") ∈ lw_all := lw_g (lw_at lw_m3 10 rfl) rfl
theorem q569 : (Jvm.Cond.laysFinal "TileOffice$Block" "TileOffice$Block" "shades" "[[S") ∈ lw_all := lw_g (lw_at lw_m3 11 rfl) rfl
theorem q570 : (Jvm.Cond.soleField "TileOffice$Block" "shades") ∈ lw_all := lw_g (lw_at lw_m3 12 rfl) rfl
theorem q571 : (Jvm.Cond.superclass "TileOffice$Block" "java/lang/Object") ∈ lw_all := lw_g (lw_at lw_m3 13 rfl) rfl
theorem q577 : (Jvm.Cond.instanceMethod ({ cls := "TileOffice$Block", name := "moved", desc := "(ILTileOffice;)LTileOffice$Block;" } : Jvm.MethodName)) ∈ lw_all := lw_g (lw_at lw_m3 19 rfl) rfl
theorem q578 : (Jvm.Cond.selects "TileOffice$Block" ({ cls := "TileOffice$Block", name := "moved", desc := "(ILTileOffice;)LTileOffice$Block;" } : Jvm.MethodName) ({ cls := "TileOffice$Block", name := "moved", desc := "(ILTileOffice;)LTileOffice$Block;" } : Jvm.MethodName)) ∈ lw_all := lw_g (lw_at lw_m3 20 rfl) rfl
theorem q579 : (Jvm.Cond.code ({ cls := "TileOffice$Block", name := "moved", desc := "(ILTileOffice;)LTileOffice$Block;" } : Jvm.MethodName) prog_3_method_4_code (12 : Nat) (Option.some (Jvm.ClassFile.FieldType.object "TileOffice$Block"))) ∈ lw_all := lw_g (lw_at lw_m3 21 rfl) rfl
theorem q580 : (Jvm.Cond.methodLink "TileOffice$Block" (24 : Nat) ({ cls := "TileOffice$Block", name := "rows", desc := "()I" } : Jvm.MethodName)) ∈ lw_all := lw_g (lw_at lw_m3 22 rfl) rfl
theorem q581 : (Jvm.Cond.instanceMethod ({ cls := "TileOffice$Block", name := "rows", desc := "()I" } : Jvm.MethodName)) ∈ lw_all := lw_g (lw_at lw_m3 23 rfl) rfl
theorem q582 : (Jvm.Cond.selects "TileOffice$Block" ({ cls := "TileOffice$Block", name := "rows", desc := "()I" } : Jvm.MethodName) ({ cls := "TileOffice$Block", name := "rows", desc := "()I" } : Jvm.MethodName)) ∈ lw_all := lw_g (lw_at lw_m3 24 rfl) rfl
theorem q583 : (Jvm.Cond.code ({ cls := "TileOffice$Block", name := "rows", desc := "()I" } : Jvm.MethodName) prog_3_method_2_code (1 : Nat) (Option.some Jvm.ClassFile.FieldType.int)) ∈ lw_all := lw_g (lw_at lw_m3 25 rfl) rfl
theorem q584 : (Jvm.Cond.methodLink "TileOffice$Block" (28 : Nat) ({ cls := "TileOffice$Block", name := "columns", desc := "()I" } : Jvm.MethodName)) ∈ lw_all := lw_g (lw_at lw_m3 26 rfl) rfl
theorem q585 : (Jvm.Cond.instanceMethod ({ cls := "TileOffice$Block", name := "columns", desc := "()I" } : Jvm.MethodName)) ∈ lw_all := lw_g (lw_at lw_m3 27 rfl) rfl
theorem q586 : (Jvm.Cond.selects "TileOffice$Block" ({ cls := "TileOffice$Block", name := "columns", desc := "()I" } : Jvm.MethodName) ({ cls := "TileOffice$Block", name := "columns", desc := "()I" } : Jvm.MethodName)) ∈ lw_all := lw_g (lw_at lw_m3 28 rfl) rfl
theorem q587 : (Jvm.Cond.code ({ cls := "TileOffice$Block", name := "columns", desc := "()I" } : Jvm.MethodName) prog_3_method_3_code (1 : Nat) (Option.some Jvm.ClassFile.FieldType.int)) ∈ lw_all := lw_g (lw_at lw_m3 29 rfl) rfl
theorem q588 : (Jvm.Cond.classLink "TileOffice$Block" (12 : Nat) "TileOffice$Block") ∈ lw_all := lw_g (lw_at lw_m3 30 rfl) rfl
theorem q589 : (Jvm.Cond.methodLink "TileOffice$Block" (31 : Nat) ({ cls := "TileOffice$Block", name := "<init>", desc := "(II)V" } : Jvm.MethodName)) ∈ lw_all := lw_g (lw_at lw_m3 31 rfl) rfl
theorem q590 : (Jvm.Cond.methodLink "TileOffice$Block" (34 : Nat) ({ cls := "TileOffice$Moves", name := "row", desc := "(IIII)I" } : Jvm.MethodName)) ∈ lw_all := lw_g (lw_at lw_m3 32 rfl) rfl
theorem q593 : (Jvm.Cond.methodLink "TileOffice$Block" (40 : Nat) ({ cls := "TileOffice$Moves", name := "column", desc := "(IIII)I" } : Jvm.MethodName)) ∈ lw_all := lw_g (lw_at lw_m3 35 rfl) rfl
theorem q596 : (Jvm.Cond.methodLink "TileOffice$Block" (46 : Nat) ({ cls := "java/util/ArrayList", name := "get", desc := "(I)Ljava/lang/Object;" } : Jvm.MethodName)) ∈ lw_all := lw_g (lw_at lw_m3 38 rfl) rfl
theorem q597 : (Jvm.Cond.classLink "TileOffice$Block" (52 : Nat) "TileOffice$Tile") ∈ lw_all := lw_g (lw_at lw_m3 39 rfl) rfl
theorem q598 : (Jvm.Cond.methodLink "TileOffice$Block" (54 : Nat) ({ cls := "TileOffice$Moves", name := "then", desc := "(II)I" } : Jvm.MethodName)) ∈ lw_all := lw_g (lw_at lw_m3 40 rfl) rfl
theorem q599 : (Jvm.Cond.methodLink "TileOffice$Block" (58 : Nat) ({ cls := "TileOffice$Tile", name := "lies", desc := "(I)I" } : Jvm.MethodName)) ∈ lw_all := lw_g (lw_at lw_m3 41 rfl) rfl
theorem q1580 : (Jvm.Cond.castable "TileOffice$Block" "java/lang/Object") ∈ lw_tbl := lw_at lw_m7 62 rfl
theorem in_X7 : ∀ w ∈ wsX70, w ∈ lw_all := lw_in wsX70 [565, 567, 569] (by decide +kernel) (by decide +kernel)

/-! TileOffice$Rule -/
def RX8 : String := "TileOffice$Rule"
def TX8 : u_T := fun k => match k with
  | 0 => ("TileOffice$Rule", "rows", "I", true)
  | 1 => ("TileOffice$Rule", "columns", "I", true)
  | _ => ("TileOffice$Rule", "of", "[LTileOffice$Block;", true)
def tyX8 : Nat → FieldType := fun k => match k with
  | 0 => .int
  | 1 => .int
  | _ => .array (.object "TileOffice$Block")
abbrev wsX80 : List Cond := u_ws RX8 TX8 3
theorem nmX8 : ∀ a, a < 3 → ∀ b, b < 3 → a ≠ b → (TX8 a).2.1 ≠ (TX8 b).2.1 := by decide +kernel
theorem tyX8_ok : ∀ k, k < 3 → parseFieldDescriptor (TX8 k).2.2.1 = some (tyX8 k) := by decide +kernel
abbrev cX8_init : ByteArray := prog_9_method_1_code
def yX8_init : MethodName := ⟨RX8, "<init>", "(II)V"⟩
abbrev cX8_block : ByteArray := prog_9_method_2_code
def yX8_block : MethodName := ⟨RX8, "block", "(I)LTileOffice$Block;"⟩
theorem q96 : (Jvm.Cond.initialized "TileOffice$Rule") ∈ lw_all := lw_g (lw_at lw_m1 18 rfl) rfl
theorem q295 : (Jvm.Cond.selects "TileOffice$Rule" ({ cls := "java/lang/Object", name := "getClass", desc := "()Ljava/lang/Class;" } : Jvm.MethodName) ({ cls := "java/lang/Object", name := "getClass", desc := "()Ljava/lang/Class;" } : Jvm.MethodName)) ∈ lw_all := lw_g (lw_at lw_m1 217 rfl) rfl
theorem q611 : (Jvm.Cond.instantiable "TileOffice$Rule" (3 : Nat)) ∈ lw_all := lw_g (lw_at lw_m3 53 rfl) rfl
theorem q613 : (Jvm.Cond.instanceMethod ({ cls := "TileOffice$Rule", name := "<init>", desc := "(II)V" } : Jvm.MethodName)) ∈ lw_all := lw_g (lw_at lw_m3 55 rfl) rfl
theorem q614 : (Jvm.Cond.code ({ cls := "TileOffice$Rule", name := "<init>", desc := "(II)V" } : Jvm.MethodName) prog_9_method_1_code (3 : Nat) (Option.none : Option Jvm.ClassFile.FieldType)) ∈ lw_all := lw_g (lw_at lw_m3 56 rfl) rfl
theorem q615 : (Jvm.Cond.methodLink "TileOffice$Rule" (3 : Nat) ({ cls := "java/lang/Object", name := "<init>", desc := "()V" } : Jvm.MethodName)) ∈ lw_all := lw_g (lw_at lw_m3 57 rfl) rfl
theorem q616 : (Jvm.Cond.classLink "TileOffice$Rule" (9 : Nat) "TileOffice$Block") ∈ lw_all := lw_g (lw_at lw_m3 58 rfl) rfl
theorem q618 : (Jvm.Cond.fieldLink "TileOffice$Rule" (17 : Nat) "TileOffice$Rule" "rows" "I") ∈ lw_all := lw_g (lw_at lw_m3 60 rfl) rfl
theorem q620 : (Jvm.Cond.fieldLink "TileOffice$Rule" (21 : Nat) "TileOffice$Rule" "columns" "I") ∈ lw_all := lw_g (lw_at lw_m3 62 rfl) rfl
theorem q622 : (Jvm.Cond.fieldLink "TileOffice$Rule" (11 : Nat) "TileOffice$Rule" "of" "[LTileOffice$Block;") ∈ lw_all := lw_g (lw_at lw_m3 64 rfl) rfl
theorem q623 : (Jvm.Cond.laysFinal "TileOffice$Rule" "TileOffice$Rule" "rows" "I") ∈ lw_all := lw_g (lw_at lw_m3 65 rfl) rfl
theorem q624 : (Jvm.Cond.soleField "TileOffice$Rule" "rows") ∈ lw_all := lw_g (lw_at lw_m3 66 rfl) rfl
theorem q625 : (Jvm.Cond.laysFinal "TileOffice$Rule" "TileOffice$Rule" "columns" "I") ∈ lw_all := lw_g (lw_at lw_m3 67 rfl) rfl
theorem q626 : (Jvm.Cond.soleField "TileOffice$Rule" "columns") ∈ lw_all := lw_g (lw_at lw_m3 68 rfl) rfl
theorem q627 : (Jvm.Cond.laysFinal "TileOffice$Rule" "TileOffice$Rule" "of" "[LTileOffice$Block;") ∈ lw_all := lw_g (lw_at lw_m3 69 rfl) rfl
theorem q628 : (Jvm.Cond.soleField "TileOffice$Rule" "of") ∈ lw_all := lw_g (lw_at lw_m3 70 rfl) rfl
theorem q629 : (Jvm.Cond.superclass "TileOffice$Rule" "java/lang/Object") ∈ lw_all := lw_g (lw_at lw_m3 71 rfl) rfl
theorem q639 : (Jvm.Cond.instanceMethod ({ cls := "TileOffice$Rule", name := "block", desc := "(I)LTileOffice$Block;" } : Jvm.MethodName)) ∈ lw_all := lw_g (lw_at lw_m3 81 rfl) rfl
theorem q640 : (Jvm.Cond.selects "TileOffice$Rule" ({ cls := "TileOffice$Rule", name := "block", desc := "(I)LTileOffice$Block;" } : Jvm.MethodName) ({ cls := "TileOffice$Rule", name := "block", desc := "(I)LTileOffice$Block;" } : Jvm.MethodName)) ∈ lw_all := lw_g (lw_at lw_m3 82 rfl) rfl
theorem q641 : (Jvm.Cond.code ({ cls := "TileOffice$Rule", name := "block", desc := "(I)LTileOffice$Block;" } : Jvm.MethodName) prog_9_method_2_code (2 : Nat) (Option.some (Jvm.ClassFile.FieldType.object "TileOffice$Block"))) ∈ lw_all := lw_g (lw_at lw_m3 83 rfl) rfl
theorem q642 : (Jvm.Cond.methodLink "TileOffice$Rule" (24 : Nat) ({ cls := "TileOffice$Block", name := "<init>", desc := "(II)V" } : Jvm.MethodName)) ∈ lw_all := lw_g (lw_at lw_m3 84 rfl) rfl
theorem q1587 : (Jvm.Cond.castable "TileOffice$Rule" "java/lang/Object") ∈ lw_tbl := lw_at lw_m7 69 rfl
theorem in_X8 : ∀ w ∈ wsX80, w ∈ lw_all := lw_in wsX80 [623, 625, 627] (by decide +kernel) (by decide +kernel)

/-! java/lang/Throwable -/
def RJ8 : String := "java/lang/Throwable"
def TJ8 : u_T := fun k => match k with
  | 0 => ("java/lang/Throwable", "cause", "Ljava/lang/Throwable;", false)
  | 1 => ("java/lang/Throwable", "stackTrace", "[Ljava/lang/StackTraceElement;", false)
  | 2 => ("java/lang/Throwable", "suppressedExceptions", "Ljava/util/List;", false)
  | 3 => ("java/lang/Throwable", "detailMessage", "Ljava/lang/String;", false)
  | _ => ("java/lang/Throwable", "backtrace", "Ljava/lang/Object;", false)
def tyJ8 : Nat → FieldType := fun k => match k with
  | 0 => .object "java/lang/Throwable"
  | 1 => .array (.object "java/lang/StackTraceElement")
  | 2 => .object "java/util/List"
  | 3 => .object "java/lang/String"
  | _ => .object "java/lang/Object"
abbrev wsJ80 : List Cond := u_ws RJ8 TJ8 5
theorem nmJ8 : ∀ a, a < 5 → ∀ b, b < 5 → a ≠ b → (TJ8 a).2.1 ≠ (TJ8 b).2.1 := by decide +kernel
theorem tyJ8_ok : ∀ k, k < 5 → parseFieldDescriptor (TJ8 k).2.2.1 = some (tyJ8 k) := by decide +kernel
abbrev cJ8_init : ByteArray := prog_22_method_2_code
def yJ8_init : MethodName := ⟨RJ8, "<init>", "(Ljava/lang/String;)V"⟩
abbrev cJ8_init_2 : ByteArray := prog_22_method_1_code
def yJ8_init_2 : MethodName := ⟨RJ8, "<init>", "()V"⟩
abbrev cJ8_init_3 : ByteArray := prog_22_method_5_code
def yJ8_init_3 : MethodName := ⟨RJ8, "<init>", "(Ljava/lang/String;Ljava/lang/Throwable;ZZ)V"⟩
theorem q97 : (Jvm.Cond.initialized "java/lang/Throwable") ∈ lw_all := lw_g (lw_at lw_m1 19 rfl) rfl
theorem q705 : (Jvm.Cond.instanceMethod ({ cls := "java/lang/Throwable", name := "<init>", desc := "(Ljava/lang/String;)V" } : Jvm.MethodName)) ∈ lw_all := lw_g (lw_at lw_m3 147 rfl) rfl
theorem q706 : (Jvm.Cond.code ({ cls := "java/lang/Throwable", name := "<init>", desc := "(Ljava/lang/String;)V" } : Jvm.MethodName) prog_22_method_2_code (2 : Nat) (Option.none : Option Jvm.ClassFile.FieldType)) ∈ lw_all := lw_g (lw_at lw_m3 148 rfl) rfl
theorem q707 : (Jvm.Cond.methodLink "java/lang/Throwable" (1 : Nat) ({ cls := "java/lang/Object", name := "<init>", desc := "()V" } : Jvm.MethodName)) ∈ lw_all := lw_g (lw_at lw_m3 149 rfl) rfl
theorem q708 : (Jvm.Cond.fieldLink "java/lang/Throwable" (13 : Nat) "java/lang/Throwable" "UNASSIGNED_STACK" "[Ljava/lang/StackTraceElement;") ∈ lw_all := lw_g (lw_at lw_m3 150 rfl) rfl
theorem q709 : (Jvm.Cond.laysStatic "java/lang/Throwable" "UNASSIGNED_STACK" "[Ljava/lang/StackTraceElement;") ∈ lw_tbl := lw_at lw_m3 151 rfl
theorem q710 : (Jvm.Cond.fieldLink "java/lang/Throwable" (20 : Nat) "java/lang/Throwable" "SUPPRESSED_SENTINEL" "Ljava/util/List;") ∈ lw_all := lw_g (lw_at lw_m3 152 rfl) rfl
theorem q711 : (Jvm.Cond.laysStatic "java/lang/Throwable" "SUPPRESSED_SENTINEL" "Ljava/util/List;") ∈ lw_tbl := lw_at lw_m3 153 rfl
theorem q712 : (Jvm.Cond.methodLink "java/lang/Throwable" (27 : Nat) ({ cls := "java/lang/Throwable", name := "fillInStackTrace", desc := "()Ljava/lang/Throwable;" } : Jvm.MethodName)) ∈ lw_all := lw_g (lw_at lw_m3 154 rfl) rfl
theorem q713 : (Jvm.Cond.instanceMethod ({ cls := "java/lang/Throwable", name := "fillInStackTrace", desc := "()Ljava/lang/Throwable;" } : Jvm.MethodName)) ∈ lw_all := lw_g (lw_at lw_m3 155 rfl) rfl
theorem q714 : (Jvm.Cond.sameMethod "java/lang/Throwable" "java/lang/Throwable" "fillInStackTrace" "()Ljava/lang/Throwable;") ∈ lw_all := lw_g (lw_at lw_m3 156 rfl) rfl
theorem q717 : (Jvm.Cond.codeSync ({ cls := "java/lang/Throwable", name := "fillInStackTrace", desc := "()Ljava/lang/Throwable;" } : Jvm.MethodName) prog_22_method_18_code (1 : Nat) (Option.some (Jvm.ClassFile.FieldType.object "java/lang/Throwable"))) ∈ lw_all := lw_g (lw_at lw_m3 159 rfl) rfl
theorem q718 : (Jvm.Cond.methodLink "java/lang/Throwable" (202 : Nat) ({ cls := "java/lang/Throwable", name := "fillInStackTrace", desc := "(I)Ljava/lang/Throwable;" } : Jvm.MethodName)) ∈ lw_all := lw_g (lw_at lw_m3 160 rfl) rfl
theorem q719 : (Jvm.Cond.privateMethod ({ cls := "java/lang/Throwable", name := "fillInStackTrace", desc := "(I)Ljava/lang/Throwable;" } : Jvm.MethodName)) ∈ lw_tbl := lw_at lw_m3 161 rfl
theorem q720 : (Jvm.Cond.instanceMethod ({ cls := "java/lang/Throwable", name := "fillInStackTrace", desc := "(I)Ljava/lang/Throwable;" } : Jvm.MethodName)) ∈ lw_all := lw_g (lw_at lw_m3 162 rfl) rfl
theorem q721 : (Jvm.Cond.instantiable "java/lang/Throwable" (6 : Nat)) ∈ lw_all := lw_g (lw_at lw_m3 163 rfl) rfl
theorem q722 : (Jvm.Cond.native ({ cls := "java/lang/Throwable", name := "fillInStackTrace", desc := "(I)Ljava/lang/Throwable;" } : Jvm.MethodName)) ∈ lw_all := lw_g (lw_at lw_m3 164 rfl) rfl
theorem q723 : (Jvm.Cond.fieldLink "java/lang/Throwable" (198 : Nat) "java/lang/Throwable" "backtrace" "Ljava/lang/Object;") ∈ lw_all := lw_g (lw_at lw_m3 165 rfl) rfl
theorem q724 : (Jvm.Cond.fieldLink "java/lang/Throwable" (31 : Nat) "java/lang/Throwable" "detailMessage" "Ljava/lang/String;") ∈ lw_all := lw_g (lw_at lw_m3 166 rfl) rfl
theorem q725 : (Jvm.Cond.fieldLink "java/lang/Throwable" (7 : Nat) "java/lang/Throwable" "cause" "Ljava/lang/Throwable;") ∈ lw_all := lw_g (lw_at lw_m3 167 rfl) rfl
theorem q726 : (Jvm.Cond.fieldLink "java/lang/Throwable" (17 : Nat) "java/lang/Throwable" "stackTrace" "[Ljava/lang/StackTraceElement;") ∈ lw_all := lw_g (lw_at lw_m3 168 rfl) rfl
theorem q727 : (Jvm.Cond.fieldLink "java/lang/Throwable" (24 : Nat) "java/lang/Throwable" "suppressedExceptions" "Ljava/util/List;") ∈ lw_all := lw_g (lw_at lw_m3 169 rfl) rfl
theorem q729 : (Jvm.Cond.soleField "java/lang/Throwable" "backtrace") ∈ lw_all := lw_g (lw_at lw_m3 171 rfl) rfl
theorem q731 : (Jvm.Cond.soleField "java/lang/Throwable" "detailMessage") ∈ lw_all := lw_g (lw_at lw_m3 173 rfl) rfl
theorem q733 : (Jvm.Cond.soleField "java/lang/Throwable" "cause") ∈ lw_all := lw_g (lw_at lw_m3 175 rfl) rfl
theorem q735 : (Jvm.Cond.soleField "java/lang/Throwable" "stackTrace") ∈ lw_all := lw_g (lw_at lw_m3 177 rfl) rfl
theorem q737 : (Jvm.Cond.soleField "java/lang/Throwable" "depth") ∈ lw_all := lw_g (lw_at lw_m3 179 rfl) rfl
theorem q739 : (Jvm.Cond.soleField "java/lang/Throwable" "suppressedExceptions") ∈ lw_all := lw_g (lw_at lw_m3 181 rfl) rfl
theorem q746 : (Jvm.Cond.declares ({ cls := "java/lang/Throwable", name := "<init>", desc := "()V" } : Jvm.MethodName)) ∈ lw_tbl := lw_at lw_m3 188 rfl
theorem q747 : (Jvm.Cond.declares ({ cls := "java/lang/Throwable", name := "<init>", desc := "(Ljava/lang/String;)V" } : Jvm.MethodName)) ∈ lw_tbl := lw_at lw_m3 189 rfl
theorem q749 : (Jvm.Cond.lays "java/lang/Throwable" "java/lang/Throwable" "cause" "Ljava/lang/Throwable;") ∈ lw_all := lw_g (lw_at lw_m3 191 rfl) rfl
theorem q750 : (Jvm.Cond.lays "java/lang/Throwable" "java/lang/Throwable" "stackTrace" "[Ljava/lang/StackTraceElement;") ∈ lw_all := lw_g (lw_at lw_m3 192 rfl) rfl
theorem q751 : (Jvm.Cond.lays "java/lang/Throwable" "java/lang/Throwable" "suppressedExceptions" "Ljava/util/List;") ∈ lw_all := lw_g (lw_at lw_m3 193 rfl) rfl
theorem q752 : (Jvm.Cond.lays "java/lang/Throwable" "java/lang/Throwable" "detailMessage" "Ljava/lang/String;") ∈ lw_all := lw_g (lw_at lw_m3 194 rfl) rfl
theorem q753 : (Jvm.Cond.lays "java/lang/Throwable" "java/lang/Throwable" "backtrace" "Ljava/lang/Object;") ∈ lw_all := lw_g (lw_at lw_m3 195 rfl) rfl
theorem q754 : (Jvm.Cond.fieldLink "java/lang/Throwable" (198 : Nat) "java/lang/Throwable" "backtrace" "Ljava/lang/Object;") ∈ lw_all := lw_g (lw_at lw_m3 196 rfl) rfl
theorem q755 : (Jvm.Cond.superclass "java/lang/Throwable" "java/lang/Object") ∈ lw_all := lw_g (lw_at lw_m3 197 rfl) rfl
theorem q756 : (Jvm.Cond.instanceMethod ({ cls := "java/lang/Throwable", name := "<init>", desc := "()V" } : Jvm.MethodName)) ∈ lw_all := lw_g (lw_at lw_m3 198 rfl) rfl
theorem q757 : (Jvm.Cond.code ({ cls := "java/lang/Throwable", name := "<init>", desc := "()V" } : Jvm.MethodName) prog_22_method_1_code (1 : Nat) (Option.none : Option Jvm.ClassFile.FieldType)) ∈ lw_all := lw_g (lw_at lw_m3 199 rfl) rfl
theorem q792 : (Jvm.Cond.instanceMethod ({ cls := "java/lang/Throwable", name := "<init>", desc := "(Ljava/lang/String;Ljava/lang/Throwable;ZZ)V" } : Jvm.MethodName)) ∈ lw_all := lw_g (lw_at lw_m3 234 rfl) rfl
theorem q793 : (Jvm.Cond.code ({ cls := "java/lang/Throwable", name := "<init>", desc := "(Ljava/lang/String;Ljava/lang/Throwable;ZZ)V" } : Jvm.MethodName) prog_22_method_5_code (5 : Nat) (Option.none : Option Jvm.ClassFile.FieldType)) ∈ lw_all := lw_g (lw_at lw_m3 235 rfl) rfl
theorem q1578 : (Jvm.Cond.sameMethod "java/lang/Throwable" "java/lang/Throwable" "fillInStackTrace" "(I)Ljava/lang/Throwable;") ∈ lw_all := lw_g (lw_at lw_m7 60 rfl) rfl
theorem q1591 : (Jvm.Cond.castable "java/lang/Throwable" "java/lang/Object") ∈ lw_tbl := lw_at lw_m7 73 rfl
theorem in_J8 : ∀ w ∈ wsJ80, w ∈ lw_all := lw_in wsJ80 [749, 750, 751, 752, 753] (by decide +kernel) (by decide +kernel)

/-! java/lang/Exception -/
def RJ9 : String := "java/lang/Exception"
abbrev cJ9_init : ByteArray := prog_16_method_2_code
def yJ9_init : MethodName := ⟨RJ9, "<init>", "(Ljava/lang/String;)V"⟩
abbrev cJ9_init_2 : ByteArray := prog_16_method_5_code
def yJ9_init_2 : MethodName := ⟨RJ9, "<init>", "(Ljava/lang/String;Ljava/lang/Throwable;ZZ)V"⟩
theorem q98 : (Jvm.Cond.initialized "java/lang/Exception") ∈ lw_all := lw_g (lw_at lw_m1 20 rfl) rfl
theorem q702 : (Jvm.Cond.instanceMethod ({ cls := "java/lang/Exception", name := "<init>", desc := "(Ljava/lang/String;)V" } : Jvm.MethodName)) ∈ lw_all := lw_g (lw_at lw_m3 144 rfl) rfl
theorem q703 : (Jvm.Cond.code ({ cls := "java/lang/Exception", name := "<init>", desc := "(Ljava/lang/String;)V" } : Jvm.MethodName) prog_16_method_2_code (2 : Nat) (Option.none : Option Jvm.ClassFile.FieldType)) ∈ lw_all := lw_g (lw_at lw_m3 145 rfl) rfl
theorem q704 : (Jvm.Cond.methodLink "java/lang/Exception" (7 : Nat) ({ cls := "java/lang/Throwable", name := "<init>", desc := "(Ljava/lang/String;)V" } : Jvm.MethodName)) ∈ lw_all := lw_g (lw_at lw_m3 146 rfl) rfl
theorem q744 : (Jvm.Cond.declares ({ cls := "java/lang/Exception", name := "<init>", desc := "()V" } : Jvm.MethodName)) ∈ lw_tbl := lw_at lw_m3 186 rfl
theorem q745 : (Jvm.Cond.declares ({ cls := "java/lang/Exception", name := "<init>", desc := "(Ljava/lang/String;)V" } : Jvm.MethodName)) ∈ lw_tbl := lw_at lw_m3 187 rfl
theorem q789 : (Jvm.Cond.instanceMethod ({ cls := "java/lang/Exception", name := "<init>", desc := "(Ljava/lang/String;Ljava/lang/Throwable;ZZ)V" } : Jvm.MethodName)) ∈ lw_all := lw_g (lw_at lw_m3 231 rfl) rfl
theorem q790 : (Jvm.Cond.code ({ cls := "java/lang/Exception", name := "<init>", desc := "(Ljava/lang/String;Ljava/lang/Throwable;ZZ)V" } : Jvm.MethodName) prog_16_method_5_code (5 : Nat) (Option.none : Option Jvm.ClassFile.FieldType)) ∈ lw_all := lw_g (lw_at lw_m3 232 rfl) rfl
theorem q791 : (Jvm.Cond.methodLink "java/lang/Exception" (16 : Nat) ({ cls := "java/lang/Throwable", name := "<init>", desc := "(Ljava/lang/String;Ljava/lang/Throwable;ZZ)V" } : Jvm.MethodName)) ∈ lw_all := lw_g (lw_at lw_m3 233 rfl) rfl

/-! java/lang/RuntimeException -/
def RJ10 : String := "java/lang/RuntimeException"
abbrev cJ10_init : ByteArray := prog_19_method_2_code
def yJ10_init : MethodName := ⟨RJ10, "<init>", "(Ljava/lang/String;)V"⟩
theorem q99 : (Jvm.Cond.initialized "java/lang/RuntimeException") ∈ lw_all := lw_g (lw_at lw_m1 21 rfl) rfl
theorem q699 : (Jvm.Cond.instanceMethod ({ cls := "java/lang/RuntimeException", name := "<init>", desc := "(Ljava/lang/String;)V" } : Jvm.MethodName)) ∈ lw_all := lw_g (lw_at lw_m3 141 rfl) rfl
theorem q700 : (Jvm.Cond.code ({ cls := "java/lang/RuntimeException", name := "<init>", desc := "(Ljava/lang/String;)V" } : Jvm.MethodName) prog_19_method_2_code (2 : Nat) (Option.none : Option Jvm.ClassFile.FieldType)) ∈ lw_all := lw_g (lw_at lw_m3 142 rfl) rfl
theorem q701 : (Jvm.Cond.methodLink "java/lang/RuntimeException" (7 : Nat) ({ cls := "java/lang/Exception", name := "<init>", desc := "(Ljava/lang/String;)V" } : Jvm.MethodName)) ∈ lw_all := lw_g (lw_at lw_m3 143 rfl) rfl
theorem q742 : (Jvm.Cond.declares ({ cls := "java/lang/RuntimeException", name := "<init>", desc := "()V" } : Jvm.MethodName)) ∈ lw_tbl := lw_at lw_m3 184 rfl
theorem q743 : (Jvm.Cond.declares ({ cls := "java/lang/RuntimeException", name := "<init>", desc := "(Ljava/lang/String;)V" } : Jvm.MethodName)) ∈ lw_tbl := lw_at lw_m3 185 rfl

/-! java/lang/ArithmeticException -/
def RJ11 : String := "java/lang/ArithmeticException"
def TJ11 : u_T := fun k => match k with
  | 0 => ("java/lang/Throwable", "backtrace", "Ljava/lang/Object;", false)
  | 1 => ("java/lang/Throwable", "detailMessage", "Ljava/lang/String;", false)
  | 2 => ("java/lang/Throwable", "cause", "Ljava/lang/Throwable;", false)
  | 3 => ("java/lang/Throwable", "stackTrace", "[Ljava/lang/StackTraceElement;", false)
  | 4 => ("java/lang/Throwable", "depth", "I", false)
  | _ => ("java/lang/Throwable", "suppressedExceptions", "Ljava/util/List;", false)
def tyJ11 : Nat → FieldType := fun k => match k with
  | 0 => .object "java/lang/Object"
  | 1 => .object "java/lang/String"
  | 2 => .object "java/lang/Throwable"
  | 3 => .array (.object "java/lang/StackTraceElement")
  | 4 => .int
  | _ => .object "java/util/List"
abbrev wsJ110 : List Cond := u_ws RJ11 TJ11 6
theorem nmJ11 : ∀ a, a < 6 → ∀ b, b < 6 → a ≠ b → (TJ11 a).2.1 ≠ (TJ11 b).2.1 := by decide +kernel
theorem tyJ11_ok : ∀ k, k < 6 → parseFieldDescriptor (TJ11 k).2.2.1 = some (tyJ11 k) := by decide +kernel
abbrev cJ11_init : ByteArray := prog_14_method_2_code
def yJ11_init : MethodName := ⟨RJ11, "<init>", "(Ljava/lang/String;)V"⟩
theorem q100 : (Jvm.Cond.initialized "java/lang/ArithmeticException") ∈ lw_all := lw_g (lw_at lw_m1 22 rfl) rfl
theorem q298 : (Jvm.Cond.selects "java/lang/ArithmeticException" ({ cls := "java/lang/Object", name := "getClass", desc := "()Ljava/lang/Class;" } : Jvm.MethodName) ({ cls := "java/lang/Object", name := "getClass", desc := "()Ljava/lang/Class;" } : Jvm.MethodName)) ∈ lw_all := lw_g (lw_at lw_m1 220 rfl) rfl
theorem q695 : (Jvm.Cond.instantiable "java/lang/ArithmeticException" (6 : Nat)) ∈ lw_all := lw_g (lw_at lw_m3 137 rfl) rfl
theorem q696 : (Jvm.Cond.instanceMethod ({ cls := "java/lang/ArithmeticException", name := "<init>", desc := "(Ljava/lang/String;)V" } : Jvm.MethodName)) ∈ lw_all := lw_g (lw_at lw_m3 138 rfl) rfl
theorem q697 : (Jvm.Cond.code ({ cls := "java/lang/ArithmeticException", name := "<init>", desc := "(Ljava/lang/String;)V" } : Jvm.MethodName) prog_14_method_2_code (2 : Nat) (Option.none : Option Jvm.ClassFile.FieldType)) ∈ lw_all := lw_g (lw_at lw_m3 139 rfl) rfl
theorem q698 : (Jvm.Cond.methodLink "java/lang/ArithmeticException" (7 : Nat) ({ cls := "java/lang/RuntimeException", name := "<init>", desc := "(Ljava/lang/String;)V" } : Jvm.MethodName)) ∈ lw_all := lw_g (lw_at lw_m3 140 rfl) rfl
theorem q716 : (Jvm.Cond.selects "java/lang/ArithmeticException" ({ cls := "java/lang/Throwable", name := "fillInStackTrace", desc := "()Ljava/lang/Throwable;" } : Jvm.MethodName) ({ cls := "java/lang/Throwable", name := "fillInStackTrace", desc := "()Ljava/lang/Throwable;" } : Jvm.MethodName)) ∈ lw_all := lw_g (lw_at lw_m3 158 rfl) rfl
theorem q728 : (Jvm.Cond.lays "java/lang/ArithmeticException" "java/lang/Throwable" "backtrace" "Ljava/lang/Object;") ∈ lw_all := lw_g (lw_at lw_m3 170 rfl) rfl
theorem q730 : (Jvm.Cond.lays "java/lang/ArithmeticException" "java/lang/Throwable" "detailMessage" "Ljava/lang/String;") ∈ lw_all := lw_g (lw_at lw_m3 172 rfl) rfl
theorem q732 : (Jvm.Cond.lays "java/lang/ArithmeticException" "java/lang/Throwable" "cause" "Ljava/lang/Throwable;") ∈ lw_all := lw_g (lw_at lw_m3 174 rfl) rfl
theorem q734 : (Jvm.Cond.lays "java/lang/ArithmeticException" "java/lang/Throwable" "stackTrace" "[Ljava/lang/StackTraceElement;") ∈ lw_all := lw_g (lw_at lw_m3 176 rfl) rfl
theorem q736 : (Jvm.Cond.lays "java/lang/ArithmeticException" "java/lang/Throwable" "depth" "I") ∈ lw_all := lw_g (lw_at lw_m3 178 rfl) rfl
theorem q738 : (Jvm.Cond.lays "java/lang/ArithmeticException" "java/lang/Throwable" "suppressedExceptions" "Ljava/util/List;") ∈ lw_all := lw_g (lw_at lw_m3 180 rfl) rfl
theorem q740 : (Jvm.Cond.superclass "java/lang/ArithmeticException" "java/lang/RuntimeException") ∈ lw_all := lw_g (lw_at lw_m3 182 rfl) rfl
theorem q741 : (Jvm.Cond.castable "java/lang/ArithmeticException" "java/lang/ArithmeticException") ∈ lw_tbl := lw_at lw_m3 183 rfl
theorem q748 : (Jvm.Cond.selects "java/lang/ArithmeticException" ({ cls := "java/lang/Throwable", name := "fillInStackTrace", desc := "(I)Ljava/lang/Throwable;" } : Jvm.MethodName) ({ cls := "java/lang/Throwable", name := "fillInStackTrace", desc := "(I)Ljava/lang/Throwable;" } : Jvm.MethodName)) ∈ lw_all := lw_g (lw_at lw_m3 190 rfl) rfl
theorem q1588 : (Jvm.Cond.castable "java/lang/ArithmeticException" "java/lang/Object") ∈ lw_tbl := lw_at lw_m7 70 rfl
theorem in_J11 : ∀ w ∈ wsJ110, w ∈ lw_all := lw_in wsJ110 [728, 730, 732, 734, 736, 738] (by decide +kernel) (by decide +kernel)

/-! java/lang/String -/
def RJ12 : String := "java/lang/String"
def TJ12 : u_T := fun k => match k with
  | 0 => ("java/lang/String", "value", "[B", true)
  | _ => ("java/lang/String", "coder", "B", true)
def tyJ12 : Nat → FieldType := fun k => match k with
  | 0 => .array .byte
  | _ => .byte
abbrev wsJ120 : List Cond := u_ws RJ12 TJ12 2
theorem nmJ12 : ∀ a, a < 2 → ∀ b, b < 2 → a ≠ b → (TJ12 a).2.1 ≠ (TJ12 b).2.1 := by decide +kernel
theorem tyJ12_ok : ∀ k, k < 2 → parseFieldDescriptor (TJ12 k).2.2.1 = some (tyJ12 k) := by decide +kernel
theorem q101 : (Jvm.Cond.initialized "java/lang/String") ∈ lw_all := lw_g (lw_at lw_m1 23 rfl) rfl
theorem q758 : (Jvm.Cond.instantiable "java/lang/String" (4 : Nat)) ∈ lw_all := lw_g (lw_at lw_m3 200 rfl) rfl
theorem q759 : (Jvm.Cond.laysFinal "java/lang/String" "java/lang/String" "value" "[B") ∈ lw_all := lw_g (lw_at lw_m3 201 rfl) rfl
theorem q760 : (Jvm.Cond.soleField "java/lang/String" "value") ∈ lw_all := lw_g (lw_at lw_m3 202 rfl) rfl
theorem q761 : (Jvm.Cond.laysFinal "java/lang/String" "java/lang/String" "coder" "B") ∈ lw_all := lw_g (lw_at lw_m3 203 rfl) rfl
theorem q762 : (Jvm.Cond.soleField "java/lang/String" "coder") ∈ lw_all := lw_g (lw_at lw_m3 204 rfl) rfl
theorem q1592 : (Jvm.Cond.castable "java/lang/String" "java/lang/Object") ∈ lw_tbl := lw_at lw_m7 74 rfl
theorem in_J12 : ∀ w ∈ wsJ120, w ∈ lw_all := lw_in wsJ120 [759, 761] (by decide +kernel) (by decide +kernel)

/-! TileOffice$Beyond -/
def RX9 : String := "TileOffice$Beyond"
def TX9 : u_T := fun k => match k with
  | 0 => ("java/lang/Throwable", "cause", "Ljava/lang/Throwable;", false)
  | 1 => ("java/lang/Throwable", "stackTrace", "[Ljava/lang/StackTraceElement;", false)
  | 2 => ("java/lang/Throwable", "suppressedExceptions", "Ljava/util/List;", false)
  | 3 => ("java/lang/Throwable", "detailMessage", "Ljava/lang/String;", false)
  | 4 => ("java/lang/Throwable", "backtrace", "Ljava/lang/Object;", false)
  | _ => ("java/lang/Throwable", "depth", "I", false)
def tyX9 : Nat → FieldType := fun k => match k with
  | 0 => .object "java/lang/Throwable"
  | 1 => .array (.object "java/lang/StackTraceElement")
  | 2 => .object "java/util/List"
  | 3 => .object "java/lang/String"
  | 4 => .object "java/lang/Object"
  | _ => .int
abbrev wsX90 : List Cond := u_ws RX9 TX9 6
theorem nmX9 : ∀ a, a < 6 → ∀ b, b < 6 → a ≠ b → (TX9 a).2.1 ≠ (TX9 b).2.1 := by decide +kernel
theorem tyX9_ok : ∀ k, k < 6 → parseFieldDescriptor (TX9 k).2.2.1 = some (tyX9 k) := by decide +kernel
abbrev cX9_init : ByteArray := prog_2_method_1_code
def yX9_init : MethodName := ⟨RX9, "<init>", "(Ljava/lang/Throwable;)V"⟩
theorem q102 : (Jvm.Cond.initialized "TileOffice$Beyond") ∈ lw_all := lw_g (lw_at lw_m1 24 rfl) rfl
theorem q289 : (Jvm.Cond.selects "TileOffice$Beyond" ({ cls := "java/lang/Object", name := "getClass", desc := "()Ljava/lang/Class;" } : Jvm.MethodName) ({ cls := "java/lang/Object", name := "getClass", desc := "()Ljava/lang/Class;" } : Jvm.MethodName)) ∈ lw_all := lw_g (lw_at lw_m1 211 rfl) rfl
theorem q715 : (Jvm.Cond.selects "TileOffice$Beyond" ({ cls := "java/lang/Throwable", name := "fillInStackTrace", desc := "()Ljava/lang/Throwable;" } : Jvm.MethodName) ({ cls := "java/lang/Throwable", name := "fillInStackTrace", desc := "()Ljava/lang/Throwable;" } : Jvm.MethodName)) ∈ lw_all := lw_g (lw_at lw_m3 157 rfl) rfl
theorem q777 : (Jvm.Cond.instantiable "TileOffice$Beyond" (6 : Nat)) ∈ lw_all := lw_g (lw_at lw_m3 219 rfl) rfl
theorem q778 : (Jvm.Cond.castable "TileOffice$Beyond" "TileOffice$Beyond") ∈ lw_tbl := lw_at lw_m3 220 rfl
theorem q779 : (Jvm.Cond.selects "TileOffice$Beyond" ({ cls := "java/lang/Throwable", name := "fillInStackTrace", desc := "(I)Ljava/lang/Throwable;" } : Jvm.MethodName) ({ cls := "java/lang/Throwable", name := "fillInStackTrace", desc := "(I)Ljava/lang/Throwable;" } : Jvm.MethodName)) ∈ lw_all := lw_g (lw_at lw_m3 221 rfl) rfl
theorem q780 : (Jvm.Cond.lays "TileOffice$Beyond" "java/lang/Throwable" "cause" "Ljava/lang/Throwable;") ∈ lw_all := lw_g (lw_at lw_m3 222 rfl) rfl
theorem q781 : (Jvm.Cond.lays "TileOffice$Beyond" "java/lang/Throwable" "stackTrace" "[Ljava/lang/StackTraceElement;") ∈ lw_all := lw_g (lw_at lw_m3 223 rfl) rfl
theorem q782 : (Jvm.Cond.lays "TileOffice$Beyond" "java/lang/Throwable" "suppressedExceptions" "Ljava/util/List;") ∈ lw_all := lw_g (lw_at lw_m3 224 rfl) rfl
theorem q783 : (Jvm.Cond.lays "TileOffice$Beyond" "java/lang/Throwable" "detailMessage" "Ljava/lang/String;") ∈ lw_all := lw_g (lw_at lw_m3 225 rfl) rfl
theorem q784 : (Jvm.Cond.lays "TileOffice$Beyond" "java/lang/Throwable" "backtrace" "Ljava/lang/Object;") ∈ lw_all := lw_g (lw_at lw_m3 226 rfl) rfl
theorem q786 : (Jvm.Cond.instanceMethod ({ cls := "TileOffice$Beyond", name := "<init>", desc := "(Ljava/lang/Throwable;)V" } : Jvm.MethodName)) ∈ lw_all := lw_g (lw_at lw_m3 228 rfl) rfl
theorem q787 : (Jvm.Cond.code ({ cls := "TileOffice$Beyond", name := "<init>", desc := "(Ljava/lang/Throwable;)V" } : Jvm.MethodName) prog_2_method_1_code (2 : Nat) (Option.none : Option Jvm.ClassFile.FieldType)) ∈ lw_all := lw_g (lw_at lw_m3 229 rfl) rfl
theorem q788 : (Jvm.Cond.methodLink "TileOffice$Beyond" (1 : Nat) ({ cls := "java/lang/Exception", name := "<init>", desc := "(Ljava/lang/String;Ljava/lang/Throwable;ZZ)V" } : Jvm.MethodName)) ∈ lw_all := lw_g (lw_at lw_m3 230 rfl) rfl
theorem q794 : (Jvm.Cond.lays "TileOffice$Beyond" "java/lang/Throwable" "depth" "I") ∈ lw_all := lw_g (lw_at lw_m3 236 rfl) rfl
theorem q795 : (Jvm.Cond.superclass "TileOffice$Beyond" "java/lang/Exception") ∈ lw_all := lw_g (lw_at lw_m3 237 rfl) rfl
theorem q1589 : (Jvm.Cond.castable "TileOffice$Beyond" "java/lang/Object") ∈ lw_tbl := lw_at lw_m7 71 rfl
theorem in_X9 : ∀ w ∈ wsX90, w ∈ lw_all := lw_in wsX90 [780, 781, 782, 783, 784, 794] (by decide +kernel) (by decide +kernel)

/-! TileOffice$Floor -/
def RX10 : String := "TileOffice$Floor"
def TX10 : u_T := fun k => match k with
  | 0 => ("TileOffice$Floor", "rows", "I", true)
  | 1 => ("TileOffice$Floor", "columns", "I", true)
  | 2 => ("TileOffice$Floor", "is", "[[I", true)
  | 3 => ("TileOffice$Floor", "stock", "[I", true)
  | 4 => ("TileOffice$Floor", "left", "[I", true)
  | 5 => ("TileOffice$Floor", "lies", "[[I", true)
  | 6 => ("TileOffice$Floor", "told", "[[I", true)
  | 7 => ("TileOffice$Floor", "way", "[[I", true)
  | 8 => ("TileOffice$Floor", "one", "[[Z", true)
  | 9 => ("TileOffice$Floor", "shows", "Z", false)
  | 10 => ("TileOffice$Floor", "steps", "I", false)
  | 11 => ("TileOffice$Floor", "found", "I", false)
  | 12 => ("TileOffice$Floor", "most", "I", false)
  | 13 => ("TileOffice$Floor", "best", "I", false)
  | 14 => ("TileOffice$Floor", "price", "I", false)
  | 15 => ("TileOffice$Floor", "least", "I", false)
  | 16 => ("TileOffice$Floor", "open", "I", false)
  | 17 => ("TileOffice$Floor", "cheapest", "Z", false)
  | 18 => ("TileOffice$Floor", "spent", "Z", false)
  | _ => ("TileOffice$Floor", "this$0", "LTileOffice;", true)
def tyX10 : Nat → FieldType := fun k => match k with
  | 0 => .int
  | 1 => .int
  | 2 => .array (.array .int)
  | 3 => .array .int
  | 4 => .array .int
  | 5 => .array (.array .int)
  | 6 => .array (.array .int)
  | 7 => .array (.array .int)
  | 8 => .array (.array .boolean)
  | 9 => .boolean
  | 10 => .int
  | 11 => .int
  | 12 => .int
  | 13 => .int
  | 14 => .int
  | 15 => .int
  | 16 => .int
  | 17 => .boolean
  | 18 => .boolean
  | _ => .object "TileOffice"
abbrev wsX100 : List Cond := u_ws RX10 TX10 20
theorem nmX10 : ∀ a, a < 20 → ∀ b, b < 20 → a ≠ b → (TX10 a).2.1 ≠ (TX10 b).2.1 := by decide +kernel
theorem tyX10_ok : ∀ k, k < 20 → parseFieldDescriptor (TX10 k).2.2.1 = some (tyX10 k) := by decide +kernel
abbrev cX10_init : ByteArray := prog_5_method_1_code
def yX10_init : MethodName := ⟨RX10, "<init>", "(LTileOffice;II)V"⟩
abbrev cX10_place : ByteArray := prog_5_method_20_code
def yX10_place : MethodName := ⟨RX10, "place", "(IIII)Z"⟩
abbrev cX10_has : ByteArray := prog_5_method_2_code
def yX10_has : MethodName := ⟨RX10, "has", "(II)Z"⟩
abbrev cX10_fill : ByteArray := prog_5_method_14_code
def yX10_fill : MethodName := ⟨RX10, "fill", "()I"⟩
abbrev cX10_search : ByteArray := prog_5_method_9_code
def yX10_search : MethodName := ⟨RX10, "search", "(IZ)V"⟩
abbrev cX10_begin : ByteArray := prog_5_method_8_code
def yX10_begin : MethodName := ⟨RX10, "begin", "()V"⟩
abbrev cX10_clear : ByteArray := prog_5_method_3_code
def yX10_clear : MethodName := ⟨RX10, "clear", "()V"⟩
abbrev cX10_isGood : ByteArray := prog_5_method_7_code
def yX10_isGood : MethodName := ⟨RX10, "isGood", "()Z"⟩
abbrev cX10_fits : ByteArray := prog_5_method_5_code
def yX10_fits : MethodName := ⟨RX10, "fits", "(IIII)Z"⟩
abbrev cX10_meets : ByteArray := prog_5_method_4_code
def yX10_meets : MethodName := ⟨RX10, "meets", "(IIII)Z"⟩
abbrev cX10_next : ByteArray := prog_5_method_12_code
def yX10_next : MethodName := ⟨RX10, "next", "()V"⟩
abbrev cX10_keep : ByteArray := prog_5_method_11_code
def yX10_keep : MethodName := ⟨RX10, "keep", "()V"⟩
abbrev cX10_fitting : ByteArray := prog_5_method_6_code
def yX10_fitting : MethodName := ⟨RX10, "fitting", "(III)I"⟩
abbrev cX10_ends : ByteArray := prog_5_method_10_code
def yX10_ends : MethodName := ⟨RX10, "ends", "()Z"⟩
abbrev cX10_tries : ByteArray := prog_5_method_13_code
def yX10_tries : MethodName := ⟨RX10, "tries", "(IIII)V"⟩
abbrev cX10_fills : ByteArray := prog_5_method_15_code
def yX10_fills : MethodName := ⟨RX10, "fills", "(I)I"⟩
abbrev cX10_cost : ByteArray := prog_5_method_16_code
def yX10_cost : MethodName := ⟨RX10, "cost", "()I"⟩
abbrev cX10_forced : ByteArray := prog_5_method_17_code
def yX10_forced : MethodName := ⟨RX10, "forced", "()I"⟩
abbrev cX10_round : ByteArray := prog_5_method_18_code
def yX10_round : MethodName := ⟨RX10, "round", "()I"⟩
abbrev cX10_way : ByteArray := prog_5_method_19_code
def yX10_way : MethodName := ⟨RX10, "way", "(II)I"⟩
abbrev cX10_shown : ByteArray := prog_5_method_21_code
def yX10_shown : MethodName := ⟨RX10, "shown", "(II)I"⟩
theorem q103 : (Jvm.Cond.initialized "TileOffice$Floor") ∈ lw_all := lw_g (lw_at lw_m1 25 rfl) rfl
theorem q145 : (Jvm.Cond.fieldLinkNest "TileOffice$Floor" (52 : Nat) "TileOffice" "kinds" "Ljava/util/ArrayList;" "TileOffice") ∈ lw_tbl := lw_at lw_m1 67 rfl
theorem q153 : (Jvm.Cond.fieldLinkNest "TileOffice$Floor" (157 : Nat) "TileOffice" "made" "I" "TileOffice") ∈ lw_tbl := lw_at lw_m1 75 rfl
theorem q240 : (Jvm.Cond.fieldLink "TileOffice$Floor" (113 : Nat) "TileOffice$Tile" "cost" "I") ∈ lw_all := lw_g (lw_at lw_m1 162 rfl) rfl
theorem q292 : (Jvm.Cond.selects "TileOffice$Floor" ({ cls := "java/lang/Object", name := "getClass", desc := "()Ljava/lang/Class;" } : Jvm.MethodName) ({ cls := "java/lang/Object", name := "getClass", desc := "()Ljava/lang/Class;" } : Jvm.MethodName)) ∈ lw_all := lw_g (lw_at lw_m1 214 rfl) rfl
theorem q866 : (Jvm.Cond.instantiable "TileOffice$Floor" (20 : Nat)) ∈ lw_all := lw_g (lw_at lw_m4 68 rfl) rfl
theorem q868 : (Jvm.Cond.instanceMethod ({ cls := "TileOffice$Floor", name := "<init>", desc := "(LTileOffice;II)V" } : Jvm.MethodName)) ∈ lw_all := lw_g (lw_at lw_m4 70 rfl) rfl
theorem q869 : (Jvm.Cond.code ({ cls := "TileOffice$Floor", name := "<init>", desc := "(LTileOffice;II)V" } : Jvm.MethodName) prog_5_method_1_code (9 : Nat) (Option.none : Option Jvm.ClassFile.FieldType)) ∈ lw_all := lw_g (lw_at lw_m4 71 rfl) rfl
theorem q870 : (Jvm.Cond.methodLink "TileOffice$Floor" (9 : Nat) ({ cls := "java/lang/Object", name := "<init>", desc := "()V" } : Jvm.MethodName)) ∈ lw_all := lw_g (lw_at lw_m4 72 rfl) rfl
theorem q871 : (Jvm.Cond.classLink "TileOffice$Floor" (29 : Nat) "[[I") ∈ lw_all := lw_g (lw_at lw_m4 73 rfl) rfl
theorem q873 : (Jvm.Cond.classLink "TileOffice$Floor" (43 : Nat) "[[Z") ∈ lw_all := lw_g (lw_at lw_m4 75 rfl) rfl
theorem q874 : (Jvm.Cond.fieldLink "TileOffice$Floor" (22 : Nat) "TileOffice$Floor" "rows" "I") ∈ lw_all := lw_g (lw_at lw_m4 76 rfl) rfl
theorem q875 : (Jvm.Cond.fieldLink "TileOffice$Floor" (26 : Nat) "TileOffice$Floor" "columns" "I") ∈ lw_all := lw_g (lw_at lw_m4 77 rfl) rfl
theorem q876 : (Jvm.Cond.fieldLink "TileOffice$Floor" (31 : Nat) "TileOffice$Floor" "is" "[[I") ∈ lw_all := lw_g (lw_at lw_m4 78 rfl) rfl
theorem q877 : (Jvm.Cond.fieldLink "TileOffice$Floor" (15 : Nat) "TileOffice$Floor" "stock" "[I") ∈ lw_all := lw_g (lw_at lw_m4 79 rfl) rfl
theorem q879 : (Jvm.Cond.fieldLink "TileOffice$Floor" (19 : Nat) "TileOffice$Floor" "left" "[I") ∈ lw_all := lw_g (lw_at lw_m4 81 rfl) rfl
theorem q880 : (Jvm.Cond.fieldLink "TileOffice$Floor" (34 : Nat) "TileOffice$Floor" "lies" "[[I") ∈ lw_all := lw_g (lw_at lw_m4 82 rfl) rfl
theorem q881 : (Jvm.Cond.fieldLink "TileOffice$Floor" (37 : Nat) "TileOffice$Floor" "told" "[[I") ∈ lw_all := lw_g (lw_at lw_m4 83 rfl) rfl
theorem q882 : (Jvm.Cond.fieldLink "TileOffice$Floor" (40 : Nat) "TileOffice$Floor" "way" "[[I") ∈ lw_all := lw_g (lw_at lw_m4 84 rfl) rfl
theorem q883 : (Jvm.Cond.fieldLink "TileOffice$Floor" (45 : Nat) "TileOffice$Floor" "one" "[[Z") ∈ lw_all := lw_g (lw_at lw_m4 85 rfl) rfl
theorem q884 : (Jvm.Cond.fieldLink "TileOffice$Floor" (85 : Nat) "TileOffice$Floor" "shows" "Z") ∈ lw_all := lw_g (lw_at lw_m4 86 rfl) rfl
theorem q885 : (Jvm.Cond.fieldLink "TileOffice$Floor" (89 : Nat) "TileOffice$Floor" "steps" "I") ∈ lw_all := lw_g (lw_at lw_m4 87 rfl) rfl
theorem q886 : (Jvm.Cond.fieldLink "TileOffice$Floor" (92 : Nat) "TileOffice$Floor" "found" "I") ∈ lw_all := lw_g (lw_at lw_m4 88 rfl) rfl
theorem q887 : (Jvm.Cond.fieldLink "TileOffice$Floor" (124 : Nat) "TileOffice$Floor" "most" "I") ∈ lw_all := lw_g (lw_at lw_m4 89 rfl) rfl
theorem q888 : (Jvm.Cond.fieldLink "TileOffice$Floor" (101 : Nat) "TileOffice$Floor" "best" "I") ∈ lw_all := lw_g (lw_at lw_m4 90 rfl) rfl
theorem q889 : (Jvm.Cond.fieldLink "TileOffice$Floor" (95 : Nat) "TileOffice$Floor" "price" "I") ∈ lw_all := lw_g (lw_at lw_m4 91 rfl) rfl
theorem q890 : (Jvm.Cond.fieldLink "TileOffice$Floor" (107 : Nat) "TileOffice$Floor" "least" "I") ∈ lw_all := lw_g (lw_at lw_m4 92 rfl) rfl
theorem q891 : (Jvm.Cond.fieldLink "TileOffice$Floor" (110 : Nat) "TileOffice$Floor" "open" "I") ∈ lw_all := lw_g (lw_at lw_m4 93 rfl) rfl
theorem q892 : (Jvm.Cond.fieldLink "TileOffice$Floor" (127 : Nat) "TileOffice$Floor" "cheapest" "Z") ∈ lw_all := lw_g (lw_at lw_m4 94 rfl) rfl
theorem q893 : (Jvm.Cond.fieldLink "TileOffice$Floor" (104 : Nat) "TileOffice$Floor" "spent" "Z") ∈ lw_all := lw_g (lw_at lw_m4 95 rfl) rfl
theorem q894 : (Jvm.Cond.fieldLink "TileOffice$Floor" (3 : Nat) "TileOffice$Floor" "this$0" "LTileOffice;") ∈ lw_all := lw_g (lw_at lw_m4 96 rfl) rfl
theorem q895 : (Jvm.Cond.laysFinal "TileOffice$Floor" "TileOffice$Floor" "rows" "I") ∈ lw_all := lw_g (lw_at lw_m4 97 rfl) rfl
theorem q896 : (Jvm.Cond.soleField "TileOffice$Floor" "rows") ∈ lw_all := lw_g (lw_at lw_m4 98 rfl) rfl
theorem q897 : (Jvm.Cond.laysFinal "TileOffice$Floor" "TileOffice$Floor" "columns" "I") ∈ lw_all := lw_g (lw_at lw_m4 99 rfl) rfl
theorem q898 : (Jvm.Cond.soleField "TileOffice$Floor" "columns") ∈ lw_all := lw_g (lw_at lw_m4 100 rfl) rfl
theorem q899 : (Jvm.Cond.laysFinal "TileOffice$Floor" "TileOffice$Floor" "is" "[[I") ∈ lw_all := lw_g (lw_at lw_m4 101 rfl) rfl
theorem q900 : (Jvm.Cond.soleField "TileOffice$Floor" "is") ∈ lw_all := lw_g (lw_at lw_m4 102 rfl) rfl
theorem q901 : (Jvm.Cond.laysFinal "TileOffice$Floor" "TileOffice$Floor" "stock" "[I") ∈ lw_all := lw_g (lw_at lw_m4 103 rfl) rfl
theorem q902 : (Jvm.Cond.soleField "TileOffice$Floor" "stock") ∈ lw_all := lw_g (lw_at lw_m4 104 rfl) rfl
theorem q903 : (Jvm.Cond.laysFinal "TileOffice$Floor" "TileOffice$Floor" "left" "[I") ∈ lw_all := lw_g (lw_at lw_m4 105 rfl) rfl
theorem q904 : (Jvm.Cond.soleField "TileOffice$Floor" "left") ∈ lw_all := lw_g (lw_at lw_m4 106 rfl) rfl
theorem q905 : (Jvm.Cond.laysFinal "TileOffice$Floor" "TileOffice$Floor" "lies" "[[I") ∈ lw_all := lw_g (lw_at lw_m4 107 rfl) rfl
theorem q906 : (Jvm.Cond.soleField "TileOffice$Floor" "lies") ∈ lw_all := lw_g (lw_at lw_m4 108 rfl) rfl
theorem q907 : (Jvm.Cond.laysFinal "TileOffice$Floor" "TileOffice$Floor" "told" "[[I") ∈ lw_all := lw_g (lw_at lw_m4 109 rfl) rfl
theorem q908 : (Jvm.Cond.soleField "TileOffice$Floor" "told") ∈ lw_all := lw_g (lw_at lw_m4 110 rfl) rfl
theorem q909 : (Jvm.Cond.laysFinal "TileOffice$Floor" "TileOffice$Floor" "way" "[[I") ∈ lw_all := lw_g (lw_at lw_m4 111 rfl) rfl
theorem q910 : (Jvm.Cond.soleField "TileOffice$Floor" "way") ∈ lw_all := lw_g (lw_at lw_m4 112 rfl) rfl
theorem q911 : (Jvm.Cond.laysFinal "TileOffice$Floor" "TileOffice$Floor" "one" "[[Z") ∈ lw_all := lw_g (lw_at lw_m4 113 rfl) rfl
theorem q912 : (Jvm.Cond.soleField "TileOffice$Floor" "one") ∈ lw_all := lw_g (lw_at lw_m4 114 rfl) rfl
theorem q913 : (Jvm.Cond.lays "TileOffice$Floor" "TileOffice$Floor" "shows" "Z") ∈ lw_all := lw_g (lw_at lw_m4 115 rfl) rfl
theorem q914 : (Jvm.Cond.soleField "TileOffice$Floor" "shows") ∈ lw_all := lw_g (lw_at lw_m4 116 rfl) rfl
theorem q915 : (Jvm.Cond.lays "TileOffice$Floor" "TileOffice$Floor" "steps" "I") ∈ lw_all := lw_g (lw_at lw_m4 117 rfl) rfl
theorem q916 : (Jvm.Cond.soleField "TileOffice$Floor" "steps") ∈ lw_all := lw_g (lw_at lw_m4 118 rfl) rfl
theorem q917 : (Jvm.Cond.lays "TileOffice$Floor" "TileOffice$Floor" "found" "I") ∈ lw_all := lw_g (lw_at lw_m4 119 rfl) rfl
theorem q918 : (Jvm.Cond.soleField "TileOffice$Floor" "found") ∈ lw_all := lw_g (lw_at lw_m4 120 rfl) rfl
theorem q919 : (Jvm.Cond.lays "TileOffice$Floor" "TileOffice$Floor" "most" "I") ∈ lw_all := lw_g (lw_at lw_m4 121 rfl) rfl
theorem q920 : (Jvm.Cond.soleField "TileOffice$Floor" "most") ∈ lw_all := lw_g (lw_at lw_m4 122 rfl) rfl
theorem q921 : (Jvm.Cond.lays "TileOffice$Floor" "TileOffice$Floor" "best" "I") ∈ lw_all := lw_g (lw_at lw_m4 123 rfl) rfl
theorem q922 : (Jvm.Cond.soleField "TileOffice$Floor" "best") ∈ lw_all := lw_g (lw_at lw_m4 124 rfl) rfl
theorem q923 : (Jvm.Cond.lays "TileOffice$Floor" "TileOffice$Floor" "price" "I") ∈ lw_all := lw_g (lw_at lw_m4 125 rfl) rfl
theorem q924 : (Jvm.Cond.soleField "TileOffice$Floor" "price") ∈ lw_all := lw_g (lw_at lw_m4 126 rfl) rfl
theorem q925 : (Jvm.Cond.lays "TileOffice$Floor" "TileOffice$Floor" "least" "I") ∈ lw_all := lw_g (lw_at lw_m4 127 rfl) rfl
theorem q926 : (Jvm.Cond.soleField "TileOffice$Floor" "least") ∈ lw_all := lw_g (lw_at lw_m4 128 rfl) rfl
theorem q927 : (Jvm.Cond.lays "TileOffice$Floor" "TileOffice$Floor" "open" "I") ∈ lw_all := lw_g (lw_at lw_m4 129 rfl) rfl
theorem q928 : (Jvm.Cond.soleField "TileOffice$Floor" "open") ∈ lw_all := lw_g (lw_at lw_m4 130 rfl) rfl
theorem q929 : (Jvm.Cond.lays "TileOffice$Floor" "TileOffice$Floor" "cheapest" "Z") ∈ lw_all := lw_g (lw_at lw_m4 131 rfl) rfl
theorem q930 : (Jvm.Cond.soleField "TileOffice$Floor" "cheapest") ∈ lw_all := lw_g (lw_at lw_m4 132 rfl) rfl
theorem q931 : (Jvm.Cond.lays "TileOffice$Floor" "TileOffice$Floor" "spent" "Z") ∈ lw_all := lw_g (lw_at lw_m4 133 rfl) rfl
theorem q932 : (Jvm.Cond.soleField "TileOffice$Floor" "spent") ∈ lw_all := lw_g (lw_at lw_m4 134 rfl) rfl
theorem q933 : (Jvm.Cond.laysFinal "TileOffice$Floor" "TileOffice$Floor" "this$0" "LTileOffice;") ∈ lw_all := lw_g (lw_at lw_m4 135 rfl) rfl
theorem q934 : (Jvm.Cond.soleField "TileOffice$Floor" "this$0") ∈ lw_all := lw_g (lw_at lw_m4 136 rfl) rfl
theorem q935 : (Jvm.Cond.superclass "TileOffice$Floor" "java/lang/Object") ∈ lw_all := lw_g (lw_at lw_m4 137 rfl) rfl
theorem q945 : (Jvm.Cond.instanceMethod ({ cls := "TileOffice$Floor", name := "place", desc := "(IIII)Z" } : Jvm.MethodName)) ∈ lw_all := lw_g (lw_at lw_m4 147 rfl) rfl
theorem q946 : (Jvm.Cond.selects "TileOffice$Floor" ({ cls := "TileOffice$Floor", name := "place", desc := "(IIII)Z" } : Jvm.MethodName) ({ cls := "TileOffice$Floor", name := "place", desc := "(IIII)Z" } : Jvm.MethodName)) ∈ lw_all := lw_g (lw_at lw_m4 148 rfl) rfl
theorem q947 : (Jvm.Cond.code ({ cls := "TileOffice$Floor", name := "place", desc := "(IIII)Z" } : Jvm.MethodName) prog_5_method_20_code (5 : Nat) (Option.some Jvm.ClassFile.FieldType.boolean)) ∈ lw_all := lw_g (lw_at lw_m4 149 rfl) rfl
theorem q948 : (Jvm.Cond.methodLink "TileOffice$Floor" (48 : Nat) ({ cls := "TileOffice$Floor", name := "has", desc := "(II)Z" } : Jvm.MethodName)) ∈ lw_all := lw_g (lw_at lw_m4 150 rfl) rfl
theorem q949 : (Jvm.Cond.privateMethod ({ cls := "TileOffice$Floor", name := "has", desc := "(II)Z" } : Jvm.MethodName)) ∈ lw_tbl := lw_at lw_m4 151 rfl
theorem q950 : (Jvm.Cond.instanceMethod ({ cls := "TileOffice$Floor", name := "has", desc := "(II)Z" } : Jvm.MethodName)) ∈ lw_all := lw_g (lw_at lw_m4 152 rfl) rfl
theorem q951 : (Jvm.Cond.code ({ cls := "TileOffice$Floor", name := "has", desc := "(II)Z" } : Jvm.MethodName) prog_5_method_2_code (3 : Nat) (Option.some Jvm.ClassFile.FieldType.boolean)) ∈ lw_all := lw_g (lw_at lw_m4 153 rfl) rfl
theorem q952 : (Jvm.Cond.methodLink "TileOffice$Floor" (56 : Nat) ({ cls := "java/util/ArrayList", name := "get", desc := "(I)Ljava/lang/Object;" } : Jvm.MethodName)) ∈ lw_all := lw_g (lw_at lw_m4 154 rfl) rfl
theorem q953 : (Jvm.Cond.classLink "TileOffice$Floor" (62 : Nat) "TileOffice$Tile") ∈ lw_all := lw_g (lw_at lw_m4 155 rfl) rfl
theorem q954 : (Jvm.Cond.methodLink "TileOffice$Floor" (76 : Nat) ({ cls := "TileOffice$Tile", name := "lies", desc := "(I)I" } : Jvm.MethodName)) ∈ lw_all := lw_g (lw_at lw_m4 156 rfl) rfl
theorem q964 : (Jvm.Cond.instanceMethod ({ cls := "TileOffice$Floor", name := "fill", desc := "()I" } : Jvm.MethodName)) ∈ lw_all := lw_g (lw_at lw_m4 166 rfl) rfl
theorem q965 : (Jvm.Cond.selects "TileOffice$Floor" ({ cls := "TileOffice$Floor", name := "fill", desc := "()I" } : Jvm.MethodName) ({ cls := "TileOffice$Floor", name := "fill", desc := "()I" } : Jvm.MethodName)) ∈ lw_all := lw_g (lw_at lw_m4 167 rfl) rfl
theorem q966 : (Jvm.Cond.code ({ cls := "TileOffice$Floor", name := "fill", desc := "()I" } : Jvm.MethodName) prog_5_method_14_code (1 : Nat) (Option.some Jvm.ClassFile.FieldType.int)) ∈ lw_all := lw_g (lw_at lw_m4 168 rfl) rfl
theorem q967 : (Jvm.Cond.methodLink "TileOffice$Floor" (161 : Nat) ({ cls := "TileOffice$Floor", name := "search", desc := "(IZ)V" } : Jvm.MethodName)) ∈ lw_all := lw_g (lw_at lw_m4 169 rfl) rfl
theorem q968 : (Jvm.Cond.privateMethod ({ cls := "TileOffice$Floor", name := "search", desc := "(IZ)V" } : Jvm.MethodName)) ∈ lw_tbl := lw_at lw_m4 170 rfl
theorem q969 : (Jvm.Cond.instanceMethod ({ cls := "TileOffice$Floor", name := "search", desc := "(IZ)V" } : Jvm.MethodName)) ∈ lw_all := lw_g (lw_at lw_m4 171 rfl) rfl
theorem q970 : (Jvm.Cond.code ({ cls := "TileOffice$Floor", name := "search", desc := "(IZ)V" } : Jvm.MethodName) prog_5_method_9_code (5 : Nat) (Option.none : Option Jvm.ClassFile.FieldType)) ∈ lw_all := lw_g (lw_at lw_m4 172 rfl) rfl
theorem q971 : (Jvm.Cond.methodLink "TileOffice$Floor" (121 : Nat) ({ cls := "TileOffice$Floor", name := "begin", desc := "()V" } : Jvm.MethodName)) ∈ lw_all := lw_g (lw_at lw_m4 173 rfl) rfl
theorem q972 : (Jvm.Cond.privateMethod ({ cls := "TileOffice$Floor", name := "begin", desc := "()V" } : Jvm.MethodName)) ∈ lw_tbl := lw_at lw_m4 174 rfl
theorem q973 : (Jvm.Cond.instanceMethod ({ cls := "TileOffice$Floor", name := "begin", desc := "()V" } : Jvm.MethodName)) ∈ lw_all := lw_g (lw_at lw_m4 175 rfl) rfl
theorem q974 : (Jvm.Cond.code ({ cls := "TileOffice$Floor", name := "begin", desc := "()V" } : Jvm.MethodName) prog_5_method_8_code (9 : Nat) (Option.none : Option Jvm.ClassFile.FieldType)) ∈ lw_all := lw_g (lw_at lw_m4 176 rfl) rfl
theorem q975 : (Jvm.Cond.methodLink "TileOffice$Floor" (82 : Nat) ({ cls := "TileOffice$Floor", name := "clear", desc := "()V" } : Jvm.MethodName)) ∈ lw_all := lw_g (lw_at lw_m4 177 rfl) rfl
theorem q976 : (Jvm.Cond.privateMethod ({ cls := "TileOffice$Floor", name := "clear", desc := "()V" } : Jvm.MethodName)) ∈ lw_tbl := lw_at lw_m4 178 rfl
theorem q977 : (Jvm.Cond.instanceMethod ({ cls := "TileOffice$Floor", name := "clear", desc := "()V" } : Jvm.MethodName)) ∈ lw_all := lw_g (lw_at lw_m4 179 rfl) rfl
theorem q978 : (Jvm.Cond.code ({ cls := "TileOffice$Floor", name := "clear", desc := "()V" } : Jvm.MethodName) prog_5_method_3_code (3 : Nat) (Option.none : Option Jvm.ClassFile.FieldType)) ∈ lw_all := lw_g (lw_at lw_m4 180 rfl) rfl
theorem q979 : (Jvm.Cond.constant "TileOffice$Floor" (100 : Nat) (2147483647 : Int32)) ∈ lw_all := lw_g (lw_at lw_m4 181 rfl) rfl
theorem q980 : (Jvm.Cond.methodLink "TileOffice$Floor" (72 : Nat) ({ cls := "java/util/ArrayList", name := "size", desc := "()I" } : Jvm.MethodName)) ∈ lw_all := lw_g (lw_at lw_m4 182 rfl) rfl
theorem q981 : (Jvm.Cond.methodLink "TileOffice$Floor" (116 : Nat) ({ cls := "java/lang/Math", name := "min", desc := "(II)I" } : Jvm.MethodName)) ∈ lw_all := lw_g (lw_at lw_m4 183 rfl) rfl
theorem q982 : (Jvm.Cond.methodLink "TileOffice$Floor" (130 : Nat) ({ cls := "TileOffice$Floor", name := "isGood", desc := "()Z" } : Jvm.MethodName)) ∈ lw_all := lw_g (lw_at lw_m4 184 rfl) rfl
theorem q983 : (Jvm.Cond.privateMethod ({ cls := "TileOffice$Floor", name := "isGood", desc := "()Z" } : Jvm.MethodName)) ∈ lw_tbl := lw_at lw_m4 185 rfl
theorem q984 : (Jvm.Cond.instanceMethod ({ cls := "TileOffice$Floor", name := "isGood", desc := "()Z" } : Jvm.MethodName)) ∈ lw_all := lw_g (lw_at lw_m4 186 rfl) rfl
theorem q985 : (Jvm.Cond.code ({ cls := "TileOffice$Floor", name := "isGood", desc := "()Z" } : Jvm.MethodName) prog_5_method_7_code (4 : Nat) (Option.some Jvm.ClassFile.FieldType.boolean)) ∈ lw_all := lw_g (lw_at lw_m4 187 rfl) rfl
theorem q986 : (Jvm.Cond.methodLink "TileOffice$Floor" (79 : Nat) ({ cls := "TileOffice$Floor", name := "fits", desc := "(IIII)Z" } : Jvm.MethodName)) ∈ lw_all := lw_g (lw_at lw_m4 188 rfl) rfl
theorem q987 : (Jvm.Cond.privateMethod ({ cls := "TileOffice$Floor", name := "fits", desc := "(IIII)Z" } : Jvm.MethodName)) ∈ lw_tbl := lw_at lw_m4 189 rfl
theorem q988 : (Jvm.Cond.instanceMethod ({ cls := "TileOffice$Floor", name := "fits", desc := "(IIII)Z" } : Jvm.MethodName)) ∈ lw_all := lw_g (lw_at lw_m4 190 rfl) rfl
theorem q989 : (Jvm.Cond.code ({ cls := "TileOffice$Floor", name := "fits", desc := "(IIII)Z" } : Jvm.MethodName) prog_5_method_5_code (8 : Nat) (Option.some Jvm.ClassFile.FieldType.boolean)) ∈ lw_all := lw_g (lw_at lw_m4 191 rfl) rfl
theorem q990 : (Jvm.Cond.methodLink "TileOffice$Floor" (64 : Nat) ({ cls := "TileOffice$Tile", name := "colour", desc := "(II)I" } : Jvm.MethodName)) ∈ lw_all := lw_g (lw_at lw_m4 192 rfl) rfl
theorem q991 : (Jvm.Cond.methodLink "TileOffice$Floor" (68 : Nat) ({ cls := "TileOffice$Floor", name := "meets", desc := "(IIII)Z" } : Jvm.MethodName)) ∈ lw_all := lw_g (lw_at lw_m4 193 rfl) rfl
theorem q992 : (Jvm.Cond.privateMethod ({ cls := "TileOffice$Floor", name := "meets", desc := "(IIII)Z" } : Jvm.MethodName)) ∈ lw_tbl := lw_at lw_m4 194 rfl
theorem q993 : (Jvm.Cond.instanceMethod ({ cls := "TileOffice$Floor", name := "meets", desc := "(IIII)Z" } : Jvm.MethodName)) ∈ lw_all := lw_g (lw_at lw_m4 195 rfl) rfl
theorem q994 : (Jvm.Cond.code ({ cls := "TileOffice$Floor", name := "meets", desc := "(IIII)Z" } : Jvm.MethodName) prog_5_method_4_code (7 : Nat) (Option.some Jvm.ClassFile.FieldType.boolean)) ∈ lw_all := lw_g (lw_at lw_m4 196 rfl) rfl
theorem q995 : (Jvm.Cond.methodLink "TileOffice$Floor" (134 : Nat) ({ cls := "TileOffice$Floor", name := "next", desc := "()V" } : Jvm.MethodName)) ∈ lw_all := lw_g (lw_at lw_m4 197 rfl) rfl
theorem q996 : (Jvm.Cond.privateMethod ({ cls := "TileOffice$Floor", name := "next", desc := "()V" } : Jvm.MethodName)) ∈ lw_tbl := lw_at lw_m4 198 rfl
theorem q997 : (Jvm.Cond.instanceMethod ({ cls := "TileOffice$Floor", name := "next", desc := "()V" } : Jvm.MethodName)) ∈ lw_all := lw_g (lw_at lw_m4 199 rfl) rfl
theorem q998 : (Jvm.Cond.code ({ cls := "TileOffice$Floor", name := "next", desc := "()V" } : Jvm.MethodName) prog_5_method_12_code (7 : Nat) (Option.none : Option Jvm.ClassFile.FieldType)) ∈ lw_all := lw_g (lw_at lw_m4 200 rfl) rfl
theorem q999 : (Jvm.Cond.methodLink "TileOffice$Floor" (143 : Nat) ({ cls := "TileOffice$Floor", name := "keep", desc := "()V" } : Jvm.MethodName)) ∈ lw_all := lw_g (lw_at lw_m4 201 rfl) rfl
theorem q1000 : (Jvm.Cond.privateMethod ({ cls := "TileOffice$Floor", name := "keep", desc := "()V" } : Jvm.MethodName)) ∈ lw_tbl := lw_at lw_m4 202 rfl
theorem q1001 : (Jvm.Cond.instanceMethod ({ cls := "TileOffice$Floor", name := "keep", desc := "()V" } : Jvm.MethodName)) ∈ lw_all := lw_g (lw_at lw_m4 203 rfl) rfl
theorem q1002 : (Jvm.Cond.code ({ cls := "TileOffice$Floor", name := "keep", desc := "()V" } : Jvm.MethodName) prog_5_method_11_code (2 : Nat) (Option.none : Option Jvm.ClassFile.FieldType)) ∈ lw_all := lw_g (lw_at lw_m4 204 rfl) rfl
theorem q1003 : (Jvm.Cond.methodLink "TileOffice$Floor" (137 : Nat) ({ cls := "java/lang/System", name := "arraycopy", desc := "(Ljava/lang/Object;ILjava/lang/Object;II)V" } : Jvm.MethodName)) ∈ lw_all := lw_g (lw_at lw_m4 205 rfl) rfl
theorem q1004 : (Jvm.Cond.methodLink "TileOffice$Floor" (146 : Nat) ({ cls := "TileOffice$Floor", name := "fitting", desc := "(III)I" } : Jvm.MethodName)) ∈ lw_all := lw_g (lw_at lw_m4 206 rfl) rfl
theorem q1005 : (Jvm.Cond.privateMethod ({ cls := "TileOffice$Floor", name := "fitting", desc := "(III)I" } : Jvm.MethodName)) ∈ lw_tbl := lw_at lw_m4 207 rfl
theorem q1006 : (Jvm.Cond.instanceMethod ({ cls := "TileOffice$Floor", name := "fitting", desc := "(III)I" } : Jvm.MethodName)) ∈ lw_all := lw_g (lw_at lw_m4 208 rfl) rfl
theorem q1007 : (Jvm.Cond.code ({ cls := "TileOffice$Floor", name := "fitting", desc := "(III)I" } : Jvm.MethodName) prog_5_method_6_code (7 : Nat) (Option.some Jvm.ClassFile.FieldType.int)) ∈ lw_all := lw_g (lw_at lw_m4 209 rfl) rfl
theorem q1008 : (Jvm.Cond.methodLink "TileOffice$Floor" (150 : Nat) ({ cls := "TileOffice$Floor", name := "ends", desc := "()Z" } : Jvm.MethodName)) ∈ lw_all := lw_g (lw_at lw_m4 210 rfl) rfl
theorem q1009 : (Jvm.Cond.privateMethod ({ cls := "TileOffice$Floor", name := "ends", desc := "()Z" } : Jvm.MethodName)) ∈ lw_tbl := lw_at lw_m4 211 rfl
theorem q1010 : (Jvm.Cond.instanceMethod ({ cls := "TileOffice$Floor", name := "ends", desc := "()Z" } : Jvm.MethodName)) ∈ lw_all := lw_g (lw_at lw_m4 212 rfl) rfl
theorem q1011 : (Jvm.Cond.code ({ cls := "TileOffice$Floor", name := "ends", desc := "()Z" } : Jvm.MethodName) prog_5_method_10_code (1 : Nat) (Option.some Jvm.ClassFile.FieldType.boolean)) ∈ lw_all := lw_g (lw_at lw_m4 213 rfl) rfl
theorem q1012 : (Jvm.Cond.methodLink "TileOffice$Floor" (153 : Nat) ({ cls := "TileOffice$Floor", name := "tries", desc := "(IIII)V" } : Jvm.MethodName)) ∈ lw_all := lw_g (lw_at lw_m4 214 rfl) rfl
theorem q1013 : (Jvm.Cond.privateMethod ({ cls := "TileOffice$Floor", name := "tries", desc := "(IIII)V" } : Jvm.MethodName)) ∈ lw_tbl := lw_at lw_m4 215 rfl
theorem q1014 : (Jvm.Cond.instanceMethod ({ cls := "TileOffice$Floor", name := "tries", desc := "(IIII)V" } : Jvm.MethodName)) ∈ lw_all := lw_g (lw_at lw_m4 216 rfl) rfl
theorem q1015 : (Jvm.Cond.code ({ cls := "TileOffice$Floor", name := "tries", desc := "(IIII)V" } : Jvm.MethodName) prog_5_method_13_code (6 : Nat) (Option.none : Option Jvm.ClassFile.FieldType)) ∈ lw_all := lw_g (lw_at lw_m4 217 rfl) rfl
theorem q1016 : (Jvm.Cond.constant "TileOffice$Floor" (160 : Nat) (600000 : Int32)) ∈ lw_all := lw_g (lw_at lw_m4 218 rfl) rfl
theorem q1022 : (Jvm.Cond.instanceMethod ({ cls := "TileOffice$Floor", name := "fills", desc := "(I)I" } : Jvm.MethodName)) ∈ lw_all := lw_g (lw_at lw_m4 224 rfl) rfl
theorem q1023 : (Jvm.Cond.selects "TileOffice$Floor" ({ cls := "TileOffice$Floor", name := "fills", desc := "(I)I" } : Jvm.MethodName) ({ cls := "TileOffice$Floor", name := "fills", desc := "(I)I" } : Jvm.MethodName)) ∈ lw_all := lw_g (lw_at lw_m4 225 rfl) rfl
theorem q1024 : (Jvm.Cond.code ({ cls := "TileOffice$Floor", name := "fills", desc := "(I)I" } : Jvm.MethodName) prog_5_method_15_code (2 : Nat) (Option.some Jvm.ClassFile.FieldType.int)) ∈ lw_all := lw_g (lw_at lw_m4 226 rfl) rfl
theorem q1030 : (Jvm.Cond.instanceMethod ({ cls := "TileOffice$Floor", name := "cost", desc := "()I" } : Jvm.MethodName)) ∈ lw_all := lw_g (lw_at lw_m4 232 rfl) rfl
theorem q1031 : (Jvm.Cond.selects "TileOffice$Floor" ({ cls := "TileOffice$Floor", name := "cost", desc := "()I" } : Jvm.MethodName) ({ cls := "TileOffice$Floor", name := "cost", desc := "()I" } : Jvm.MethodName)) ∈ lw_all := lw_g (lw_at lw_m4 233 rfl) rfl
theorem q1032 : (Jvm.Cond.code ({ cls := "TileOffice$Floor", name := "cost", desc := "()I" } : Jvm.MethodName) prog_5_method_16_code (1 : Nat) (Option.some Jvm.ClassFile.FieldType.int)) ∈ lw_all := lw_g (lw_at lw_m4 234 rfl) rfl
theorem q1038 : (Jvm.Cond.instanceMethod ({ cls := "TileOffice$Floor", name := "forced", desc := "()I" } : Jvm.MethodName)) ∈ lw_all := lw_g (lw_at lw_m5 0 rfl) rfl
theorem q1039 : (Jvm.Cond.selects "TileOffice$Floor" ({ cls := "TileOffice$Floor", name := "forced", desc := "()I" } : Jvm.MethodName) ({ cls := "TileOffice$Floor", name := "forced", desc := "()I" } : Jvm.MethodName)) ∈ lw_all := lw_g (lw_at lw_m5 1 rfl) rfl
theorem q1040 : (Jvm.Cond.code ({ cls := "TileOffice$Floor", name := "forced", desc := "()I" } : Jvm.MethodName) prog_5_method_17_code (3 : Nat) (Option.some Jvm.ClassFile.FieldType.int)) ∈ lw_all := lw_g (lw_at lw_m5 2 rfl) rfl
theorem q1041 : (Jvm.Cond.methodLink "TileOffice$Floor" (165 : Nat) ({ cls := "TileOffice$Floor", name := "round", desc := "()I" } : Jvm.MethodName)) ∈ lw_all := lw_g (lw_at lw_m5 3 rfl) rfl
theorem q1042 : (Jvm.Cond.privateMethod ({ cls := "TileOffice$Floor", name := "round", desc := "()I" } : Jvm.MethodName)) ∈ lw_tbl := lw_at lw_m5 4 rfl
theorem q1043 : (Jvm.Cond.instanceMethod ({ cls := "TileOffice$Floor", name := "round", desc := "()I" } : Jvm.MethodName)) ∈ lw_all := lw_g (lw_at lw_m5 5 rfl) rfl
theorem q1044 : (Jvm.Cond.code ({ cls := "TileOffice$Floor", name := "round", desc := "()I" } : Jvm.MethodName) prog_5_method_18_code (5 : Nat) (Option.some Jvm.ClassFile.FieldType.int)) ∈ lw_all := lw_g (lw_at lw_m5 6 rfl) rfl
theorem q1045 : (Jvm.Cond.methodLink "TileOffice$Floor" (168 : Nat) ({ cls := "TileOffice$Floor", name := "way", desc := "(II)I" } : Jvm.MethodName)) ∈ lw_all := lw_g (lw_at lw_m5 7 rfl) rfl
theorem q1046 : (Jvm.Cond.privateMethod ({ cls := "TileOffice$Floor", name := "way", desc := "(II)I" } : Jvm.MethodName)) ∈ lw_tbl := lw_at lw_m5 8 rfl
theorem q1047 : (Jvm.Cond.instanceMethod ({ cls := "TileOffice$Floor", name := "way", desc := "(II)I" } : Jvm.MethodName)) ∈ lw_all := lw_g (lw_at lw_m5 9 rfl) rfl
theorem q1048 : (Jvm.Cond.code ({ cls := "TileOffice$Floor", name := "way", desc := "(II)I" } : Jvm.MethodName) prog_5_method_19_code (5 : Nat) (Option.some Jvm.ClassFile.FieldType.int)) ∈ lw_all := lw_g (lw_at lw_m5 10 rfl) rfl
theorem q1054 : (Jvm.Cond.instanceMethod ({ cls := "TileOffice$Floor", name := "shown", desc := "(II)I" } : Jvm.MethodName)) ∈ lw_all := lw_g (lw_at lw_m5 16 rfl) rfl
theorem q1055 : (Jvm.Cond.selects "TileOffice$Floor" ({ cls := "TileOffice$Floor", name := "shown", desc := "(II)I" } : Jvm.MethodName) ({ cls := "TileOffice$Floor", name := "shown", desc := "(II)I" } : Jvm.MethodName)) ∈ lw_all := lw_g (lw_at lw_m5 17 rfl) rfl
theorem q1056 : (Jvm.Cond.code ({ cls := "TileOffice$Floor", name := "shown", desc := "(II)I" } : Jvm.MethodName) prog_5_method_21_code (3 : Nat) (Option.some Jvm.ClassFile.FieldType.int)) ∈ lw_all := lw_g (lw_at lw_m5 18 rfl) rfl
theorem q1590 : (Jvm.Cond.castable "TileOffice$Floor" "java/lang/Object") ∈ lw_tbl := lw_at lw_m7 72 rfl
theorem in_X10 : ∀ w ∈ wsX100, w ∈ lw_all := lw_in wsX100 [895, 897, 899, 901, 903, 905, 907, 909, 911, 913, 915, 917, 919, 921, 923, 925, 927, 929, 931, 933] (by decide +kernel) (by decide +kernel)

/-! java/lang/Object -/
def RJ13 : String := "java/lang/Object"
abbrev cJ13_init : ByteArray := object_method_1_code
def yJ13_init : MethodName := ⟨RJ13, "<init>", "()V"⟩
theorem q110 : (Jvm.Cond.instanceMethod ({ cls := "java/lang/Object", name := "<init>", desc := "()V" } : Jvm.MethodName)) ∈ lw_all := lw_g (lw_at lw_m1 32 rfl) rfl
theorem q111 : (Jvm.Cond.code ({ cls := "java/lang/Object", name := "<init>", desc := "()V" } : Jvm.MethodName) object_method_1_code (1 : Nat) (Option.none : Option Jvm.ClassFile.FieldType)) ∈ lw_all := lw_g (lw_at lw_m1 33 rfl) rfl
theorem q286 : (Jvm.Cond.instanceMethod ({ cls := "java/lang/Object", name := "getClass", desc := "()Ljava/lang/Class;" } : Jvm.MethodName)) ∈ lw_all := lw_g (lw_at lw_m1 208 rfl) rfl
theorem q287 : (Jvm.Cond.sameMethod "java/lang/Object" "java/lang/Object" "getClass" "()Ljava/lang/Class;") ∈ lw_all := lw_g (lw_at lw_m1 209 rfl) rfl
theorem q300 : (Jvm.Cond.native ({ cls := "java/lang/Object", name := "getClass", desc := "()Ljava/lang/Class;" } : Jvm.MethodName)) ∈ lw_all := lw_g (lw_at lw_m1 222 rfl) rfl
theorem q408 : (Jvm.Cond.declares ({ cls := "java/lang/Object", name := "getClass", desc := "()Ljava/lang/Class;" } : Jvm.MethodName)) ∈ lw_tbl := lw_at lw_m2 90 rfl
theorem q410 : (Jvm.Cond.publicMethod ({ cls := "java/lang/Object", name := "getClass", desc := "()Ljava/lang/Class;" } : Jvm.MethodName)) ∈ lw_tbl := lw_at lw_m2 92 rfl
theorem q506 : (Jvm.Cond.native ({ cls := "java/lang/Object", name := "clone", desc := "()Ljava/lang/Object;" } : Jvm.MethodName)) ∈ lw_all := lw_g (lw_at lw_m2 188 rfl) rfl
theorem q507 : (Jvm.Cond.instanceMethod ({ cls := "java/lang/Object", name := "clone", desc := "()Ljava/lang/Object;" } : Jvm.MethodName)) ∈ lw_all := lw_g (lw_at lw_m2 189 rfl) rfl

theorem q139 : (Jvm.Cond.arrayOver (Jvm.ClassFile.FieldType.object "TileOffice$Change")) ∈ lw_tbl := lw_at lw_m1 61 rfl
theorem q141 : (Jvm.Cond.arrayOver (Jvm.ClassFile.FieldType.array Jvm.ClassFile.FieldType.boolean)) ∈ lw_tbl := lw_at lw_m1 63 rfl
theorem q143 : (Jvm.Cond.arrayOver (Jvm.ClassFile.FieldType.array Jvm.ClassFile.FieldType.long)) ∈ lw_tbl := lw_at lw_m1 65 rfl
theorem q193 : (Jvm.Cond.arrayClass Jvm.ClassFile.FieldType.boolean) ∈ lw_all := lw_g (lw_at lw_m1 115 rfl) rfl
theorem q194 : (Jvm.Cond.arrayClass Jvm.ClassFile.FieldType.long) ∈ lw_all := lw_g (lw_at lw_m1 116 rfl) rfl
theorem q255 : (Jvm.Cond.arrayClass Jvm.ClassFile.FieldType.int) ∈ lw_all := lw_g (lw_at lw_m1 177 rfl) rfl
theorem q305 : (Jvm.Cond.arrayOver (Jvm.ClassFile.FieldType.object "java/lang/Object")) ∈ lw_tbl := lw_at lw_m1 227 rfl
theorem q450 : (Jvm.Cond.arrayClass Jvm.ClassFile.FieldType.byte) ∈ lw_all := lw_g (lw_at lw_m2 132 rfl) rfl
theorem q451 : (Jvm.Cond.arrayClass Jvm.ClassFile.FieldType.short) ∈ lw_all := lw_g (lw_at lw_m2 133 rfl) rfl
theorem q556 : (Jvm.Cond.arrayOver (Jvm.ClassFile.FieldType.array Jvm.ClassFile.FieldType.byte)) ∈ lw_tbl := lw_at lw_m2 238 rfl
theorem q558 : (Jvm.Cond.arrayOver (Jvm.ClassFile.FieldType.array Jvm.ClassFile.FieldType.short)) ∈ lw_tbl := lw_at lw_m3 0 rfl
theorem q617 : (Jvm.Cond.arrayOver (Jvm.ClassFile.FieldType.object "TileOffice$Block")) ∈ lw_tbl := lw_at lw_m3 59 rfl
theorem q872 : (Jvm.Cond.arrayOver (Jvm.ClassFile.FieldType.array Jvm.ClassFile.FieldType.int)) ∈ lw_tbl := lw_at lw_m4 74 rfl

theorem q78 : (Jvm.Cond.initialized "TileOfficeLaw") ∈ lw_all := lw_g (lw_at lw_m1 0 rfl) rfl
theorem q104 : (Jvm.Cond.classLink "TileOfficeLaw" (7 : Nat) "TileOffice") ∈ lw_all := lw_g (lw_at lw_m1 26 rfl) rfl
theorem q106 : (Jvm.Cond.methodLink "TileOfficeLaw" (9 : Nat) ({ cls := "TileOffice", name := "<init>", desc := "()V" } : Jvm.MethodName)) ∈ lw_all := lw_g (lw_at lw_m1 28 rfl) rfl
theorem q195 : (Jvm.Cond.methodLink "TileOfficeLaw" (20 : Nat) ({ cls := "TileOffice", name := "named", desc := "(J)I" } : Jvm.MethodName)) ∈ lw_all := lw_g (lw_at lw_m1 117 rfl) rfl
theorem q225 : (Jvm.Cond.methodLink "TileOfficeLaw" (15 : Nat) ({ cls := "TileOffice", name := "kind", desc := "(IIZIJ)I" } : Jvm.MethodName)) ∈ lw_all := lw_g (lw_at lw_m1 147 rfl) rfl
theorem q315 : (Jvm.Cond.methodLink "TileOfficeLaw" (25 : Nat) ({ cls := "TileOffice", name := "edge", desc := "(III)I" } : Jvm.MethodName)) ∈ lw_all := lw_g (lw_at lw_m1 237 rfl) rfl
theorem q344 : (Jvm.Cond.methodLink "TileOfficeLaw" (30 : Nat) ({ cls := "TileOffice", name := "then", desc := "(II)I" } : Jvm.MethodName)) ∈ lw_all := lw_g (lw_at lw_m2 26 rfl) rfl
theorem q351 : (Jvm.Cond.methodLink "TileOfficeLaw" (35 : Nat) ({ cls := "TileOffice", name := "pattern", desc := "()I" } : Jvm.MethodName)) ∈ lw_all := lw_g (lw_at lw_m2 33 rfl) rfl
theorem q369 : (Jvm.Cond.methodLink "TileOfficeLaw" (40 : Nat) ({ cls := "TileOffice", name := "insert", desc := "(IIII)Z" } : Jvm.MethodName)) ∈ lw_all := lw_g (lw_at lw_m2 51 rfl) rfl
theorem q461 : (Jvm.Cond.methodLink "TileOfficeLaw" (45 : Nat) ({ cls := "TileOffice", name := "remove", desc := "(II)Z" } : Jvm.MethodName)) ∈ lw_all := lw_g (lw_at lw_m2 143 rfl) rfl
theorem q480 : (Jvm.Cond.methodLink "TileOfficeLaw" (50 : Nat) ({ cls := "TileOffice", name := "move", desc := "(III)Z" } : Jvm.MethodName)) ∈ lw_all := lw_g (lw_at lw_m2 162 rfl) rfl
theorem q484 : (Jvm.Cond.methodLink "TileOfficeLaw" (55 : Nat) ({ cls := "TileOffice", name := "put", desc := "(IIIII)Z" } : Jvm.MethodName)) ∈ lw_all := lw_g (lw_at lw_m2 166 rfl) rfl
theorem q524 : (Jvm.Cond.methodLink "TileOfficeLaw" (60 : Nat) ({ cls := "TileOffice", name := "shade", desc := "(IIII)Z" } : Jvm.MethodName)) ∈ lw_all := lw_g (lw_at lw_m2 206 rfl) rfl
theorem q528 : (Jvm.Cond.methodLink "TileOfficeLaw" (64 : Nat) ({ cls := "TileOffice", name := "at", desc := "(IIII)I" } : Jvm.MethodName)) ∈ lw_all := lw_g (lw_at lw_m2 210 rfl) rfl
theorem q532 : (Jvm.Cond.methodLink "TileOfficeLaw" (69 : Nat) ({ cls := "TileOffice", name := "row", desc := "(III)I" } : Jvm.MethodName)) ∈ lw_all := lw_g (lw_at lw_m2 214 rfl) rfl
theorem q536 : (Jvm.Cond.methodLink "TileOfficeLaw" (73 : Nat) ({ cls := "TileOffice", name := "shares", desc := "(IIII)Z" } : Jvm.MethodName)) ∈ lw_all := lw_g (lw_at lw_m2 218 rfl) rfl
theorem q540 : (Jvm.Cond.methodLink "TileOfficeLaw" (77 : Nat) ({ cls := "TileOffice", name := "copy", desc := "(I)I" } : Jvm.MethodName)) ∈ lw_all := lw_g (lw_at lw_m2 222 rfl) rfl
theorem q545 : (Jvm.Cond.methodLink "TileOfficeLaw" (82 : Nat) ({ cls := "TileOffice", name := "region", desc := "(IIIII)I" } : Jvm.MethodName)) ∈ lw_all := lw_g (lw_at lw_m2 227 rfl) rfl
theorem q572 : (Jvm.Cond.methodLink "TileOfficeLaw" (87 : Nat) ({ cls := "TileOffice", name := "turn", desc := "(I)Z" } : Jvm.MethodName)) ∈ lw_all := lw_g (lw_at lw_m3 14 rfl) rfl
theorem q600 : (Jvm.Cond.methodLink "TileOfficeLaw" (92 : Nat) ({ cls := "TileOffice", name := "paste", desc := "(III)I" } : Jvm.MethodName)) ∈ lw_all := lw_g (lw_at lw_m3 42 rfl) rfl
theorem q606 : (Jvm.Cond.methodLink "TileOfficeLaw" (96 : Nat) ({ cls := "TileOffice", name := "rule", desc := "(II)I" } : Jvm.MethodName)) ∈ lw_all := lw_g (lw_at lw_m3 48 rfl) rfl
theorem q630 : (Jvm.Cond.methodLink "TileOfficeLaw" (100 : Nat) ({ cls := "TileOffice", name := "becomes", desc := "(IIIIII)Z" } : Jvm.MethodName)) ∈ lw_all := lw_g (lw_at lw_m3 72 rfl) rfl
theorem q643 : (Jvm.Cond.methodLink "TileOfficeLaw" (105 : Nat) ({ cls := "TileOffice", name := "grow", desc := "(III)I" } : Jvm.MethodName)) ∈ lw_all := lw_g (lw_at lw_m3 85 rfl) rfl
theorem q677 : (Jvm.Cond.methodLink "TileOfficeLaw" (109 : Nat) ({ cls := "TileOffice", name := "foretold", desc := "(IIII)J" } : Jvm.MethodName)) ∈ lw_all := lw_g (lw_at lw_m3 119 rfl) rfl
theorem q797 : (Jvm.Cond.methodLink "TileOfficeLaw" (114 : Nat) ({ cls := "TileOffice", name := "count", desc := "(II)I" } : Jvm.MethodName)) ∈ lw_all := lw_g (lw_at lw_m3 239 rfl) rfl
theorem q801 : (Jvm.Cond.methodLink "TileOfficeLaw" (118 : Nat) ({ cls := "TileOffice", name := "fits", desc := "(I)I" } : Jvm.MethodName)) ∈ lw_all := lw_g (lw_at lw_m4 3 rfl) rfl
theorem q809 : (Jvm.Cond.methodLink "TileOfficeLaw" (122 : Nat) ({ cls := "TileOffice", name := "period", desc := "(II)I" } : Jvm.MethodName)) ∈ lw_all := lw_g (lw_at lw_m4 11 rfl) rfl
theorem q819 : (Jvm.Cond.methodLink "TileOfficeLaw" (126 : Nat) ({ cls := "TileOffice", name := "kept", desc := "(I)I" } : Jvm.MethodName)) ∈ lw_all := lw_g (lw_at lw_m4 21 rfl) rfl
theorem q849 : (Jvm.Cond.methodLink "TileOfficeLaw" (130 : Nat) ({ cls := "TileOffice", name := "congruent", desc := "(II)I" } : Jvm.MethodName)) ∈ lw_all := lw_g (lw_at lw_m4 51 rfl) rfl
theorem q853 : (Jvm.Cond.methodLink "TileOfficeLaw" (134 : Nat) ({ cls := "TileOffice", name := "find", desc := "(III)I" } : Jvm.MethodName)) ∈ lw_all := lw_g (lw_at lw_m4 55 rfl) rfl
theorem q861 : (Jvm.Cond.methodLink "TileOfficeLaw" (138 : Nat) ({ cls := "TileOffice", name := "floor", desc := "(II)I" } : Jvm.MethodName)) ∈ lw_all := lw_g (lw_at lw_m4 63 rfl) rfl
theorem q936 : (Jvm.Cond.methodLink "TileOfficeLaw" (142 : Nat) ({ cls := "TileOffice", name := "place", desc := "(IIIII)Z" } : Jvm.MethodName)) ∈ lw_all := lw_g (lw_at lw_m4 138 rfl) rfl
theorem q955 : (Jvm.Cond.methodLink "TileOfficeLaw" (146 : Nat) ({ cls := "TileOffice", name := "stock", desc := "(III)Z" } : Jvm.MethodName)) ∈ lw_all := lw_g (lw_at lw_m4 157 rfl) rfl
theorem q959 : (Jvm.Cond.methodLink "TileOfficeLaw" (150 : Nat) ({ cls := "TileOffice", name := "fill", desc := "(I)I" } : Jvm.MethodName)) ∈ lw_all := lw_g (lw_at lw_m4 161 rfl) rfl
theorem q1017 : (Jvm.Cond.methodLink "TileOfficeLaw" (154 : Nat) ({ cls := "TileOffice", name := "fills", desc := "(II)I" } : Jvm.MethodName)) ∈ lw_all := lw_g (lw_at lw_m4 219 rfl) rfl
theorem q1025 : (Jvm.Cond.methodLink "TileOfficeLaw" (158 : Nat) ({ cls := "TileOffice", name := "cheapest", desc := "(I)I" } : Jvm.MethodName)) ∈ lw_all := lw_g (lw_at lw_m4 227 rfl) rfl
theorem q1033 : (Jvm.Cond.methodLink "TileOfficeLaw" (162 : Nat) ({ cls := "TileOffice", name := "forced", desc := "(I)I" } : Jvm.MethodName)) ∈ lw_all := lw_g (lw_at lw_m4 235 rfl) rfl
theorem q1049 : (Jvm.Cond.methodLink "TileOfficeLaw" (166 : Nat) ({ cls := "TileOffice", name := "shown", desc := "(III)I" } : Jvm.MethodName)) ∈ lw_all := lw_g (lw_at lw_m5 11 rfl) rfl
theorem q1057 : (Jvm.Cond.methodLink "TileOfficeLaw" (170 : Nat) ({ cls := "TileOffice", name := "undo", desc := "()I" } : Jvm.MethodName)) ∈ lw_all := lw_g (lw_at lw_m5 19 rfl) rfl
theorem q1061 : (Jvm.Cond.methodLink "TileOfficeLaw" (174 : Nat) ({ cls := "TileOffice", name := "about", desc := "(I)I" } : Jvm.MethodName)) ∈ lw_all := lw_g (lw_at lw_m5 23 rfl) rfl
theorem q1065 : (Jvm.Cond.classLink "TileOfficeLaw" (10 : Nat) "TileOfficeModel") ∈ lw_all := lw_g (lw_at lw_m5 27 rfl) rfl
theorem q1067 : (Jvm.Cond.methodLink "TileOfficeLaw" (12 : Nat) ({ cls := "TileOfficeModel", name := "<init>", desc := "()V" } : Jvm.MethodName)) ∈ lw_all := lw_g (lw_at lw_m5 29 rfl) rfl
theorem q1238 : (Jvm.Cond.methodLink "TileOfficeLaw" (19 : Nat) ({ cls := "TileOfficeModel", name := "kind", desc := "(IIZIJ)I" } : Jvm.MethodName)) ∈ lw_all := lw_g (lw_at lw_m5 200 rfl) rfl
theorem q1253 : (Jvm.Cond.methodLink "TileOfficeLaw" (24 : Nat) ({ cls := "TileOfficeModel", name := "named", desc := "(J)I" } : Jvm.MethodName)) ∈ lw_all := lw_g (lw_at lw_m5 215 rfl) rfl
theorem q1254 : (Jvm.Cond.methodLink "TileOfficeLaw" (34 : Nat) ({ cls := "TileOfficeModel", name := "then", desc := "(II)I" } : Jvm.MethodName)) ∈ lw_all := lw_g (lw_at lw_m5 216 rfl) rfl
theorem q1264 : (Jvm.Cond.methodLink "TileOfficeLaw" (29 : Nat) ({ cls := "TileOfficeModel", name := "edge", desc := "(III)I" } : Jvm.MethodName)) ∈ lw_all := lw_g (lw_at lw_m5 226 rfl) rfl
theorem q1280 : (Jvm.Cond.methodLink "TileOfficeLaw" (173 : Nat) ({ cls := "TileOfficeModel", name := "undo", desc := "()I" } : Jvm.MethodName)) ∈ lw_all := lw_g (lw_at lw_m6 2 rfl) rfl
theorem q1284 : (Jvm.Cond.methodLink "TileOfficeLaw" (39 : Nat) ({ cls := "TileOfficeModel", name := "pattern", desc := "()I" } : Jvm.MethodName)) ∈ lw_all := lw_g (lw_at lw_m6 6 rfl) rfl
theorem q1288 : (Jvm.Cond.methodLink "TileOfficeLaw" (44 : Nat) ({ cls := "TileOfficeModel", name := "insert", desc := "(IIII)Z" } : Jvm.MethodName)) ∈ lw_all := lw_g (lw_at lw_m6 10 rfl) rfl
theorem q1308 : (Jvm.Cond.methodLink "TileOfficeLaw" (49 : Nat) ({ cls := "TileOfficeModel", name := "remove", desc := "(II)Z" } : Jvm.MethodName)) ∈ lw_all := lw_g (lw_at lw_m6 30 rfl) rfl
theorem q1316 : (Jvm.Cond.methodLink "TileOfficeLaw" (54 : Nat) ({ cls := "TileOfficeModel", name := "move", desc := "(III)Z" } : Jvm.MethodName)) ∈ lw_all := lw_g (lw_at lw_m6 38 rfl) rfl
theorem q1320 : (Jvm.Cond.methodLink "TileOfficeLaw" (59 : Nat) ({ cls := "TileOfficeModel", name := "put", desc := "(IIIII)Z" } : Jvm.MethodName)) ∈ lw_all := lw_g (lw_at lw_m6 42 rfl) rfl
theorem q1343 : (Jvm.Cond.methodLink "TileOfficeLaw" (63 : Nat) ({ cls := "TileOfficeModel", name := "shade", desc := "(IIII)Z" } : Jvm.MethodName)) ∈ lw_all := lw_g (lw_at lw_m6 65 rfl) rfl
theorem q1358 : (Jvm.Cond.methodLink "TileOfficeLaw" (68 : Nat) ({ cls := "TileOfficeModel", name := "at", desc := "(IIII)I" } : Jvm.MethodName)) ∈ lw_all := lw_g (lw_at lw_m6 80 rfl) rfl
theorem q1365 : (Jvm.Cond.methodLink "TileOfficeLaw" (72 : Nat) ({ cls := "TileOfficeModel", name := "row", desc := "(III)I" } : Jvm.MethodName)) ∈ lw_all := lw_g (lw_at lw_m6 87 rfl) rfl
theorem q1369 : (Jvm.Cond.methodLink "TileOfficeLaw" (76 : Nat) ({ cls := "TileOfficeModel", name := "shares", desc := "(IIII)Z" } : Jvm.MethodName)) ∈ lw_all := lw_g (lw_at lw_m6 91 rfl) rfl
theorem q1373 : (Jvm.Cond.methodLink "TileOfficeLaw" (81 : Nat) ({ cls := "TileOfficeModel", name := "copy", desc := "(I)I" } : Jvm.MethodName)) ∈ lw_all := lw_g (lw_at lw_m6 95 rfl) rfl
theorem q1377 : (Jvm.Cond.methodLink "TileOfficeLaw" (86 : Nat) ({ cls := "TileOfficeModel", name := "region", desc := "(IIIII)I" } : Jvm.MethodName)) ∈ lw_all := lw_g (lw_at lw_m6 99 rfl) rfl
theorem q1381 : (Jvm.Cond.methodLink "TileOfficeLaw" (91 : Nat) ({ cls := "TileOfficeModel", name := "turn", desc := "(I)Z" } : Jvm.MethodName)) ∈ lw_all := lw_g (lw_at lw_m6 103 rfl) rfl
theorem q1393 : (Jvm.Cond.methodLink "TileOfficeLaw" (95 : Nat) ({ cls := "TileOfficeModel", name := "paste", desc := "(III)I" } : Jvm.MethodName)) ∈ lw_all := lw_g (lw_at lw_m6 115 rfl) rfl
theorem q1401 : (Jvm.Cond.methodLink "TileOfficeLaw" (99 : Nat) ({ cls := "TileOfficeModel", name := "rule", desc := "(II)I" } : Jvm.MethodName)) ∈ lw_all := lw_g (lw_at lw_m6 123 rfl) rfl
theorem q1405 : (Jvm.Cond.methodLink "TileOfficeLaw" (104 : Nat) ({ cls := "TileOfficeModel", name := "becomes", desc := "(IIIIII)Z" } : Jvm.MethodName)) ∈ lw_all := lw_g (lw_at lw_m6 127 rfl) rfl
theorem q1413 : (Jvm.Cond.methodLink "TileOfficeLaw" (108 : Nat) ({ cls := "TileOfficeModel", name := "grow", desc := "(III)I" } : Jvm.MethodName)) ∈ lw_all := lw_g (lw_at lw_m6 135 rfl) rfl
theorem q1426 : (Jvm.Cond.methodLink "TileOfficeLaw" (113 : Nat) ({ cls := "TileOfficeModel", name := "foretold", desc := "(IIII)J" } : Jvm.MethodName)) ∈ lw_all := lw_g (lw_at lw_m6 148 rfl) rfl
theorem q1435 : (Jvm.Cond.methodLink "TileOfficeLaw" (117 : Nat) ({ cls := "TileOfficeModel", name := "count", desc := "(II)I" } : Jvm.MethodName)) ∈ lw_all := lw_g (lw_at lw_m6 157 rfl) rfl
theorem q1439 : (Jvm.Cond.methodLink "TileOfficeLaw" (121 : Nat) ({ cls := "TileOfficeModel", name := "fits", desc := "(I)I" } : Jvm.MethodName)) ∈ lw_all := lw_g (lw_at lw_m6 161 rfl) rfl
theorem q1447 : (Jvm.Cond.methodLink "TileOfficeLaw" (125 : Nat) ({ cls := "TileOfficeModel", name := "period", desc := "(II)I" } : Jvm.MethodName)) ∈ lw_all := lw_g (lw_at lw_m6 169 rfl) rfl
theorem q1455 : (Jvm.Cond.methodLink "TileOfficeLaw" (129 : Nat) ({ cls := "TileOfficeModel", name := "kept", desc := "(I)I" } : Jvm.MethodName)) ∈ lw_all := lw_g (lw_at lw_m6 177 rfl) rfl
theorem q1475 : (Jvm.Cond.methodLink "TileOfficeLaw" (133 : Nat) ({ cls := "TileOfficeModel", name := "congruent", desc := "(II)I" } : Jvm.MethodName)) ∈ lw_all := lw_g (lw_at lw_m6 197 rfl) rfl
theorem q1479 : (Jvm.Cond.methodLink "TileOfficeLaw" (137 : Nat) ({ cls := "TileOfficeModel", name := "find", desc := "(III)I" } : Jvm.MethodName)) ∈ lw_all := lw_g (lw_at lw_m6 201 rfl) rfl
theorem q1487 : (Jvm.Cond.methodLink "TileOfficeLaw" (141 : Nat) ({ cls := "TileOfficeModel", name := "floor", desc := "(II)I" } : Jvm.MethodName)) ∈ lw_all := lw_g (lw_at lw_m6 209 rfl) rfl
theorem q1491 : (Jvm.Cond.methodLink "TileOfficeLaw" (145 : Nat) ({ cls := "TileOfficeModel", name := "place", desc := "(IIIII)Z" } : Jvm.MethodName)) ∈ lw_all := lw_g (lw_at lw_m6 213 rfl) rfl
theorem q1503 : (Jvm.Cond.methodLink "TileOfficeLaw" (149 : Nat) ({ cls := "TileOfficeModel", name := "stock", desc := "(III)Z" } : Jvm.MethodName)) ∈ lw_all := lw_g (lw_at lw_m6 225 rfl) rfl
theorem q1507 : (Jvm.Cond.methodLink "TileOfficeLaw" (169 : Nat) ({ cls := "TileOfficeModel", name := "shown", desc := "(III)I" } : Jvm.MethodName)) ∈ lw_all := lw_g (lw_at lw_m6 229 rfl) rfl
theorem q1511 : (Jvm.Cond.methodLink "TileOfficeLaw" (153 : Nat) ({ cls := "TileOfficeModel", name := "fill", desc := "(I)I" } : Jvm.MethodName)) ∈ lw_all := lw_g (lw_at lw_m6 233 rfl) rfl
theorem q1560 : (Jvm.Cond.methodLink "TileOfficeLaw" (157 : Nat) ({ cls := "TileOfficeModel", name := "fills", desc := "(II)I" } : Jvm.MethodName)) ∈ lw_all := lw_g (lw_at lw_m7 42 rfl) rfl
theorem q1564 : (Jvm.Cond.methodLink "TileOfficeLaw" (161 : Nat) ({ cls := "TileOfficeModel", name := "cheapest", desc := "(I)I" } : Jvm.MethodName)) ∈ lw_all := lw_g (lw_at lw_m7 46 rfl) rfl
theorem q1569 : (Jvm.Cond.methodLink "TileOfficeLaw" (165 : Nat) ({ cls := "TileOfficeModel", name := "forced", desc := "(I)I" } : Jvm.MethodName)) ∈ lw_all := lw_g (lw_at lw_m7 51 rfl) rfl
theorem q1573 : (Jvm.Cond.methodLink "TileOfficeLaw" (177 : Nat) ({ cls := "TileOfficeModel", name := "about", desc := "(I)I" } : Jvm.MethodName)) ∈ lw_all := lw_g (lw_at lw_m7 55 rfl) rfl
theorem q1577 : (Jvm.Cond.constantLong "TileOfficeLaw" (13 : Nat) (4294967295 : Int64)) ∈ lw_all := lw_g (lw_at lw_m7 59 rfl) rfl

theorem q90 : (Jvm.Cond.initialized "java/lang/System") ∈ lw_all := lw_g (lw_at lw_m1 12 rfl) rfl
theorem q311 : (Jvm.Cond.static ({ cls := "java/lang/System", name := "arraycopy", desc := "(Ljava/lang/Object;ILjava/lang/Object;II)V" } : Jvm.MethodName)) ∈ lw_all := lw_g (lw_at lw_m1 233 rfl) rfl
theorem q312 : (Jvm.Cond.native ({ cls := "java/lang/System", name := "arraycopy", desc := "(Ljava/lang/Object;ILjava/lang/Object;II)V" } : Jvm.MethodName)) ∈ lw_all := lw_g (lw_at lw_m1 234 rfl) rfl

theorem q397 : (Jvm.Cond.interfaceMethod "java/util/Collection" "java/util/Collection" "toArray" "()[Ljava/lang/Object;") ∈ lw_tbl := lw_at lw_m2 79 rfl
theorem q398 : (Jvm.Cond.declares ({ cls := "java/util/Collection", name := "toArray", desc := "()[Ljava/lang/Object;" } : Jvm.MethodName)) ∈ lw_tbl := lw_at lw_m2 80 rfl
theorem q407 : (Jvm.Cond.interfaceMethod "java/util/Collection" "java/lang/Object" "getClass" "()Ljava/lang/Class;") ∈ lw_tbl := lw_at lw_m2 89 rfl

theorem q505 : (Jvm.Cond.sameMethod "[B" "java/lang/Object" "clone" "()Ljava/lang/Object;") ∈ lw_all := lw_g (lw_at lw_m2 187 rfl) rfl
theorem q508 : (Jvm.Cond.selects "[B" ({ cls := "[B", name := "clone", desc := "()Ljava/lang/Object;" } : Jvm.MethodName) ({ cls := "java/lang/Object", name := "clone", desc := "()Ljava/lang/Object;" } : Jvm.MethodName)) ∈ lw_all := lw_g (lw_at lw_m2 190 rfl) rfl
theorem q509 : (Jvm.Cond.castable "[B" "java/lang/Cloneable") ∈ lw_tbl := lw_at lw_m2 191 rfl
theorem q1602 : (Jvm.Cond.castable "[B" "java/lang/Object") ∈ lw_tbl := lw_at lw_m7 84 rfl

theorem q512 : (Jvm.Cond.sameMethod "[S" "java/lang/Object" "clone" "()Ljava/lang/Object;") ∈ lw_all := lw_g (lw_at lw_m2 194 rfl) rfl
theorem q513 : (Jvm.Cond.selects "[S" ({ cls := "[S", name := "clone", desc := "()Ljava/lang/Object;" } : Jvm.MethodName) ({ cls := "java/lang/Object", name := "clone", desc := "()Ljava/lang/Object;" } : Jvm.MethodName)) ∈ lw_all := lw_g (lw_at lw_m2 195 rfl) rfl
theorem q514 : (Jvm.Cond.castable "[S" "java/lang/Cloneable") ∈ lw_tbl := lw_at lw_m2 196 rfl
theorem q1603 : (Jvm.Cond.castable "[S" "java/lang/Object") ∈ lw_tbl := lw_at lw_m7 85 rfl

theorem q1593 : (Jvm.Cond.sameMethod "[Ljava/lang/Object;" "java/lang/Object" "getClass" "()Ljava/lang/Class;") ∈ lw_all := lw_g (lw_at lw_m7 75 rfl) rfl
theorem q1594 : (Jvm.Cond.selects "[Ljava/lang/Object;" ({ cls := "java/lang/Object", name := "getClass", desc := "()Ljava/lang/Class;" } : Jvm.MethodName) ({ cls := "java/lang/Object", name := "getClass", desc := "()Ljava/lang/Class;" } : Jvm.MethodName)) ∈ lw_all := lw_g (lw_at lw_m7 76 rfl) rfl
theorem q1601 : (Jvm.Cond.castable "[Ljava/lang/Object;" "java/lang/Object") ∈ lw_tbl := lw_at lw_m7 83 rfl

theorem q1595 : (Jvm.Cond.castable "[LTileOffice$Change;" "java/lang/Object") ∈ lw_tbl := lw_at lw_m7 77 rfl

theorem q1596 : (Jvm.Cond.castable "[[Z" "java/lang/Object") ∈ lw_tbl := lw_at lw_m7 78 rfl

theorem q1597 : (Jvm.Cond.castable "[[J" "java/lang/Object") ∈ lw_tbl := lw_at lw_m7 79 rfl

theorem q1598 : (Jvm.Cond.castable "[Z" "java/lang/Object") ∈ lw_tbl := lw_at lw_m7 80 rfl

theorem q1599 : (Jvm.Cond.castable "[J" "java/lang/Object") ∈ lw_tbl := lw_at lw_m7 81 rfl

theorem q1600 : (Jvm.Cond.castable "[I" "java/lang/Object") ∈ lw_tbl := lw_at lw_m7 82 rfl

theorem q1604 : (Jvm.Cond.castable "[[B" "java/lang/Object") ∈ lw_tbl := lw_at lw_m7 86 rfl

theorem q1605 : (Jvm.Cond.castable "[[S" "java/lang/Object") ∈ lw_tbl := lw_at lw_m7 87 rfl

theorem q1606 : (Jvm.Cond.castable "[LTileOffice$Block;" "java/lang/Object") ∈ lw_tbl := lw_at lw_m7 88 rfl

theorem q1607 : (Jvm.Cond.castable "[[I" "java/lang/Object") ∈ lw_tbl := lw_at lw_m7 89 rfl

