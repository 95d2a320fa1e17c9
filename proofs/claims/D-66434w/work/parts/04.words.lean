abbrev b_Sht_init : ByteArray := prog_1_method_2_code
abbrev y_Sht_init : MethodName := ⟨"RangeSheet", "<init>", "()V"⟩
theorem yk_Sht_init : yOk y_Sht_init 0 := by decide +kernel
abbrev b_Box_init : ByteArray := prog_3_method_1_code
abbrev y_Box_init : MethodName := ⟨"RangeSheet$Box", "<init>", "()V"⟩
theorem yk_Box_init : yOk y_Box_init 0 := by decide +kernel
abbrev b_Rows_init : ByteArray := prog_12_method_1_code
abbrev y_Rows_init : MethodName := ⟨"RangeSheet$Rows", "<init>", "()V"⟩
theorem yk_Rows_init : yOk y_Rows_init 0 := by decide +kernel
abbrev b_Sht_hold : ByteArray := prog_1_method_12_code
abbrev y_Sht_hold : MethodName := ⟨"RangeSheet", "hold", "(IZ)Z"⟩
theorem yk_Sht_hold : yOk y_Sht_hold 2 := by decide +kernel
abbrev b_Sht_within : ByteArray := prog_1_method_3_code
abbrev y_Sht_within : MethodName := ⟨"RangeSheet", "within", "(III)Z"⟩
theorem yk_Sht_within : yOk y_Sht_within 3 := by decide +kernel
abbrev b_Sht_row : ByteArray := prog_1_method_13_code
abbrev y_Sht_row : MethodName := ⟨"RangeSheet", "row", "(III)I"⟩
theorem yk_Sht_row : yOk y_Sht_row 3 := by decide +kernel
abbrev b_Sht_force : ByteArray := prog_1_method_15_code
abbrev y_Sht_force : MethodName := ⟨"RangeSheet", "force", "(IZ)Z"⟩
theorem yk_Sht_force : yOk y_Sht_force 2 := by decide +kernel
abbrev b_Sht_narrow : ByteArray := prog_1_method_18_code
abbrev y_Sht_narrow : MethodName := ⟨"RangeSheet", "narrow", "()Z"⟩
theorem yk_Sht_narrow : yOk y_Sht_narrow 0 := by decide +kernel
abbrev b_Sht_narrowWith : ByteArray := prog_1_method_17_code
abbrev y_Sht_narrowWith : MethodName := ⟨"RangeSheet", "narrowWith", "(I)Z"⟩
theorem yk_Sht_narrowWith : yOk y_Sht_narrowWith 1 := by decide +kernel
abbrev b_Box_copy : ByteArray := prog_3_method_2_code
abbrev y_Box_copy : MethodName := ⟨"RangeSheet$Box", "copy", "(LRangeSheet$Box;)V"⟩
theorem yk_Box_copy : yOk y_Box_copy 1 := by decide +kernel
abbrev b_Box_cut : ByteArray := prog_3_method_3_code
abbrev y_Box_cut : MethodName := ⟨"RangeSheet$Box", "cut", "(III)Z"⟩
theorem yk_Box_cut : yOk y_Box_cut 3 := by decide +kernel
abbrev b_Math_max : ByteArray := prog_20_method_65_code
abbrev y_Math_max : MethodName := ⟨"java/lang/Math", "max", "(II)I"⟩
theorem yk_Math_max : yOk y_Math_max 2 := by decide +kernel
abbrev b_Math_min : ByteArray := prog_20_method_69_code
abbrev y_Math_min : MethodName := ⟨"java/lang/Math", "min", "(II)I"⟩
theorem yk_Math_min : yOk y_Math_min 2 := by decide +kernel
abbrev b_Sht_settle : ByteArray := prog_1_method_16_code
abbrev y_Sht_settle : MethodName := ⟨"RangeSheet", "settle", "(LRangeSheet$Box;)Z"⟩
theorem yk_Sht_settle : yOk y_Sht_settle 1 := by decide +kernel
abbrev b_AtMost_narrow : ByteArray := prog_2_method_4_code
abbrev y_AtMost_narrow : MethodName := ⟨"RangeSheet$AtMost", "narrow", "(LRangeSheet$Box;)Z"⟩
theorem yk_AtMost_narrow : yOk y_AtMost_narrow 1 := by decide +kernel
abbrev b_Different_narrow : ByteArray := prog_4_method_8_code
abbrev y_Different_narrow : MethodName := ⟨"RangeSheet$Different", "narrow", "(LRangeSheet$Box;)Z"⟩
theorem yk_Different_narrow : yOk y_Different_narrow 1 := by decide +kernel
abbrev b_Different_round : ByteArray := prog_4_method_7_code
abbrev y_Different_round : MethodName := ⟨"RangeSheet$Different", "round", "(LRangeSheet$Box;)Z"⟩
theorem yk_Different_round : yOk y_Different_round 1 := by decide +kernel
abbrev b_Different_has : ByteArray := prog_4_method_2_code
abbrev y_Different_has : MethodName := ⟨"RangeSheet$Different", "has", "(I)Z"⟩
theorem yk_Different_has : yOk y_Different_has 1 := by decide +kernel
abbrev b_Different_fill : ByteArray := prog_4_method_6_code
abbrev y_Different_fill : MethodName := ⟨"RangeSheet$Different", "fill", "(LRangeSheet$Box;II)Z"⟩
theorem yk_Different_fill : yOk y_Different_fill 3 := by decide +kernel
abbrev b_Different_isWithin : ByteArray := prog_4_method_5_code
abbrev y_Different_isWithin : MethodName := ⟨"RangeSheet$Different", "isWithin", "(LRangeSheet$Box;III)Z"⟩
theorem yk_Different_isWithin : yOk y_Different_isWithin 4 := by decide +kernel
abbrev b_Three_narrow : ByteArray := prog_14_method_7_code
abbrev y_Three_narrow : MethodName := ⟨"RangeSheet$Three", "narrow", "(LRangeSheet$Box;)Z"⟩
theorem yk_Three_narrow : yOk y_Three_narrow 1 := by decide +kernel
abbrev b_Greater_span : ByteArray := prog_5_method_3_code
abbrev y_Greater_span : MethodName := ⟨"RangeSheet$Greater", "span", "(IIIIIZ)V"⟩
theorem yk_Greater_span : yOk y_Greater_span 6 := by decide +kernel
abbrev b_Three_add : ByteArray := prog_14_method_6_code
abbrev y_Three_add : MethodName := ⟨"RangeSheet$Three", "add", "(IIIII)V"⟩
theorem yk_Three_add : yOk y_Three_add 5 := by decide +kernel
abbrev b_If_span : ByteArray := prog_6_method_3_code
abbrev y_If_span : MethodName := ⟨"RangeSheet$If", "span", "(IIIIIZ)V"⟩
theorem yk_If_span : yOk y_If_span 6 := by decide +kernel
abbrev b_Lesser_span : ByteArray := prog_7_method_3_code
abbrev y_Lesser_span : MethodName := ⟨"RangeSheet$Lesser", "span", "(IIIIIZ)V"⟩
theorem yk_Lesser_span : yOk y_Lesser_span 6 := by decide +kernel
abbrev b_Product_span : ByteArray := prog_9_method_3_code
abbrev y_Product_span : MethodName := ⟨"RangeSheet$Product", "span", "(IIIIIZ)V"⟩
theorem yk_Product_span : yOk y_Product_span 6 := by decide +kernel
abbrev b_Sht_ceiling : ByteArray := prog_1_method_1_code
abbrev y_Sht_ceiling : MethodName := ⟨"RangeSheet", "ceiling", "(II)I"⟩
theorem yk_Sht_ceiling : yOk y_Sht_ceiling 2 := by decide +kernel
abbrev b_Math_floorDiv : ByteArray := prog_20_method_47_code
abbrev y_Math_floorDiv : MethodName := ⟨"java/lang/Math", "floorDiv", "(II)I"⟩
theorem yk_Math_floorDiv : yOk y_Math_floorDiv 2 := by decide +kernel
abbrev b_Quotient_span : ByteArray := prog_10_method_3_code
abbrev y_Quotient_span : MethodName := ⟨"RangeSheet$Quotient", "span", "(IIIIIZ)V"⟩
theorem yk_Quotient_span : yOk y_Quotient_span 6 := by decide +kernel
abbrev b_Sum_span : ByteArray := prog_13_method_3_code
abbrev y_Sum_span : MethodName := ⟨"RangeSheet$Sum", "span", "(IIIIIZ)V"⟩
theorem yk_Sum_span : yOk y_Sum_span 6 := by decide +kernel
abbrev b_Lookup_narrow : ByteArray := prog_8_method_5_code
abbrev y_Lookup_narrow : MethodName := ⟨"RangeSheet$Lookup", "narrow", "(LRangeSheet$Box;)Z"⟩
theorem yk_Lookup_narrow : yOk y_Lookup_narrow 1 := by decide +kernel
abbrev b_Lookup_fits : ByteArray := prog_8_method_4_code
abbrev y_Lookup_fits : MethodName := ⟨"RangeSheet$Lookup", "fits", "(LRangeSheet$Box;I)Z"⟩
theorem yk_Lookup_fits : yOk y_Lookup_fits 2 := by decide +kernel
abbrev b_Sht_low : ByteArray := prog_1_method_19_code
abbrev y_Sht_low : MethodName := ⟨"RangeSheet", "low", "(I)I"⟩
theorem yk_Sht_low : yOk y_Sht_low 1 := by decide +kernel
abbrev b_Sht_high : ByteArray := prog_1_method_20_code
abbrev y_Sht_high : MethodName := ⟨"RangeSheet", "high", "(I)I"⟩
theorem yk_Sht_high : yOk y_Sht_high 1 := by decide +kernel
abbrev b_Sht_conflict : ByteArray := prog_1_method_21_code
abbrev y_Sht_conflict : MethodName := ⟨"RangeSheet", "conflict", "()I"⟩
theorem yk_Sht_conflict : yOk y_Sht_conflict 0 := by decide +kernel
abbrev b_Sht_steps : ByteArray := prog_1_method_31_code
abbrev y_Sht_steps : MethodName := ⟨"RangeSheet", "steps", "()I"⟩
theorem yk_Sht_steps : yOk y_Sht_steps 0 := by decide +kernel
abbrev b_Sht_value : ByteArray := prog_1_method_32_code
abbrev y_Sht_value : MethodName := ⟨"RangeSheet", "value", "(I)I"⟩
theorem yk_Sht_value : yOk y_Sht_value 1 := by decide +kernel
abbrev b_Sht_satisfied : ByteArray := prog_1_method_33_code
abbrev y_Sht_satisfied : MethodName := ⟨"RangeSheet", "satisfied", "(I)Z"⟩
theorem yk_Sht_satisfied : yOk y_Sht_satisfied 1 := by decide +kernel
abbrev b_AtMost_last : ByteArray := prog_2_method_2_code
abbrev y_AtMost_last : MethodName := ⟨"RangeSheet$AtMost", "last", "()I"⟩
theorem yk_AtMost_last : yOk y_AtMost_last 0 := by decide +kernel
abbrev b_Different_last : ByteArray := prog_4_method_3_code
abbrev y_Different_last : MethodName := ⟨"RangeSheet$Different", "last", "()I"⟩
theorem yk_Different_last : yOk y_Different_last 0 := by decide +kernel
abbrev b_Three_last : ByteArray := prog_14_method_2_code
abbrev y_Three_last : MethodName := ⟨"RangeSheet$Three", "last", "()I"⟩
theorem yk_Three_last : yOk y_Three_last 0 := by decide +kernel
abbrev b_Lookup_last : ByteArray := prog_8_method_2_code
abbrev y_Lookup_last : MethodName := ⟨"RangeSheet$Lookup", "last", "()I"⟩
theorem yk_Lookup_last : yOk y_Lookup_last 0 := by decide +kernel
abbrev b_AtMost_accepts : ByteArray := prog_2_method_3_code
abbrev y_AtMost_accepts : MethodName := ⟨"RangeSheet$AtMost", "accepts", "([I)Z"⟩
theorem yk_AtMost_accepts : yOk y_AtMost_accepts 1 := by decide +kernel
abbrev b_Different_accepts : ByteArray := prog_4_method_4_code
abbrev y_Different_accepts : MethodName := ⟨"RangeSheet$Different", "accepts", "([I)Z"⟩
theorem yk_Different_accepts : yOk y_Different_accepts 1 := by decide +kernel
abbrev b_Three_accepts : ByteArray := prog_14_method_3_code
abbrev y_Three_accepts : MethodName := ⟨"RangeSheet$Three", "accepts", "([I)Z"⟩
theorem yk_Three_accepts : yOk y_Three_accepts 1 := by decide +kernel
abbrev b_Greater_holds : ByteArray := prog_5_method_2_code
abbrev y_Greater_holds : MethodName := ⟨"RangeSheet$Greater", "holds", "(III)Z"⟩
theorem yk_Greater_holds : yOk y_Greater_holds 3 := by decide +kernel
abbrev b_If_holds : ByteArray := prog_6_method_2_code
abbrev y_If_holds : MethodName := ⟨"RangeSheet$If", "holds", "(III)Z"⟩
theorem yk_If_holds : yOk y_If_holds 3 := by decide +kernel
abbrev b_Lesser_holds : ByteArray := prog_7_method_2_code
abbrev y_Lesser_holds : MethodName := ⟨"RangeSheet$Lesser", "holds", "(III)Z"⟩
theorem yk_Lesser_holds : yOk y_Lesser_holds 3 := by decide +kernel
abbrev b_Product_holds : ByteArray := prog_9_method_2_code
abbrev y_Product_holds : MethodName := ⟨"RangeSheet$Product", "holds", "(III)Z"⟩
theorem yk_Product_holds : yOk y_Product_holds 3 := by decide +kernel
abbrev b_Quotient_holds : ByteArray := prog_10_method_2_code
abbrev y_Quotient_holds : MethodName := ⟨"RangeSheet$Quotient", "holds", "(III)Z"⟩
theorem yk_Quotient_holds : yOk y_Quotient_holds 3 := by decide +kernel
abbrev b_Sum_holds : ByteArray := prog_13_method_2_code
abbrev y_Sum_holds : MethodName := ⟨"RangeSheet$Sum", "holds", "(III)Z"⟩
theorem yk_Sum_holds : yOk y_Sum_holds 3 := by decide +kernel
abbrev b_Lookup_accepts : ByteArray := prog_8_method_3_code
abbrev y_Lookup_accepts : MethodName := ⟨"RangeSheet$Lookup", "accepts", "([I)Z"⟩
theorem yk_Lookup_accepts : yOk y_Lookup_accepts 1 := by decide +kernel
abbrev b_Law_cell : ByteArray := method_3_code
abbrev y_Law_cell : MethodName := ⟨"RangeSheetLaw", "cell", "(LRangeSheet;II[J)I"⟩
theorem yk_Law_cell : yOk y_Law_cell 4 := by decide +kernel
abbrev b_Sht_cell : ByteArray := prog_1_method_8_code
abbrev y_Sht_cell : MethodName := ⟨"RangeSheet", "cell", "(II)I"⟩
theorem yk_Sht_cell : yOk y_Sht_cell 2 := by decide +kernel
abbrev b_Sht_isRange : ByteArray := prog_1_method_7_code
abbrev y_Sht_isRange : MethodName := ⟨"RangeSheet", "isRange", "(II)Z"⟩
theorem yk_Sht_isRange : yOk y_Sht_isRange 2 := by decide +kernel
abbrev b_Sht_need : ByteArray := prog_1_method_5_code
abbrev y_Sht_need : MethodName := ⟨"RangeSheet", "need", "(Z)V"⟩
theorem yk_Sht_need : yOk y_Sht_need 1 := by decide +kernel
abbrev b_Sht_needRoom : ByteArray := prog_1_method_6_code
abbrev y_Sht_needRoom : MethodName := ⟨"RangeSheet", "needRoom", "(Z)V"⟩
theorem yk_Sht_needRoom : yOk y_Sht_needRoom 1 := by decide +kernel
abbrev b_Law_relate : ByteArray := method_4_code
abbrev y_Law_relate : MethodName := ⟨"RangeSheetLaw", "relate", "(LRangeSheet;IIII[J)I"⟩
theorem yk_Law_relate : yOk y_Law_relate 6 := by decide +kernel
abbrev b_Sht_relate : ByteArray := prog_1_method_11_code
abbrev y_Sht_relate : MethodName := ⟨"RangeSheet", "relate", "(IIII)I"⟩
theorem yk_Sht_relate : yOk y_Sht_relate 4 := by decide +kernel
abbrev b_Sht_isGood : ByteArray := prog_1_method_9_code
abbrev y_Sht_isGood : MethodName := ⟨"RangeSheet", "isGood", "(IIII)Z"⟩
theorem yk_Sht_isGood : yOk y_Sht_isGood 4 := by decide +kernel
abbrev b_Sht_isCell : ByteArray := prog_1_method_4_code
abbrev y_Sht_isCell : MethodName := ⟨"RangeSheet", "isCell", "(I)Z"⟩
theorem yk_Sht_isCell : yOk y_Sht_isCell 1 := by decide +kernel
abbrev b_Sht_make : ByteArray := prog_1_method_10_code
abbrev y_Sht_make : MethodName := ⟨"RangeSheet", "make", "(IIII)LRangeSheet$Relation;"⟩
theorem yk_Sht_make : yOk y_Sht_make 4 := by decide +kernel
abbrev b_Sum_init : ByteArray := prog_13_method_1_code
abbrev y_Sum_init : MethodName := ⟨"RangeSheet$Sum", "<init>", "(III)V"⟩
theorem yk_Sum_init : yOk y_Sum_init 3 := by decide +kernel
abbrev b_Three_init : ByteArray := prog_14_method_1_code
abbrev y_Three_init : MethodName := ⟨"RangeSheet$Three", "<init>", "(III)V"⟩
theorem yk_Three_init : yOk y_Three_init 3 := by decide +kernel
abbrev b_Relation_init : ByteArray := prog_11_method_1_code
abbrev y_Relation_init : MethodName := ⟨"RangeSheet$Relation", "<init>", "()V"⟩
theorem yk_Relation_init : yOk y_Relation_init 0 := by decide +kernel
abbrev b_Product_init : ByteArray := prog_9_method_1_code
abbrev y_Product_init : MethodName := ⟨"RangeSheet$Product", "<init>", "(III)V"⟩
theorem yk_Product_init : yOk y_Product_init 3 := by decide +kernel
abbrev b_Quotient_init : ByteArray := prog_10_method_1_code
abbrev y_Quotient_init : MethodName := ⟨"RangeSheet$Quotient", "<init>", "(III)V"⟩
theorem yk_Quotient_init : yOk y_Quotient_init 3 := by decide +kernel
abbrev b_Lesser_init : ByteArray := prog_7_method_1_code
abbrev y_Lesser_init : MethodName := ⟨"RangeSheet$Lesser", "<init>", "(III)V"⟩
theorem yk_Lesser_init : yOk y_Lesser_init 3 := by decide +kernel
abbrev b_Greater_init : ByteArray := prog_5_method_1_code
abbrev y_Greater_init : MethodName := ⟨"RangeSheet$Greater", "<init>", "(III)V"⟩
theorem yk_Greater_init : yOk y_Greater_init 3 := by decide +kernel
abbrev b_AtMost_init : ByteArray := prog_2_method_1_code
abbrev y_AtMost_init : MethodName := ⟨"RangeSheet$AtMost", "<init>", "(III)V"⟩
theorem yk_AtMost_init : yOk y_AtMost_init 3 := by decide +kernel
abbrev b_If_init : ByteArray := prog_6_method_1_code
abbrev y_If_init : MethodName := ⟨"RangeSheet$If", "<init>", "(III)V"⟩
theorem yk_If_init : yOk y_If_init 3 := by decide +kernel
abbrev b_Different_init : ByteArray := prog_4_method_1_code
abbrev y_Different_init : MethodName := ⟨"RangeSheet$Different", "<init>", "(I)V"⟩
theorem yk_Different_init : yOk y_Different_init 1 := by decide +kernel
abbrev b_Lookup_init : ByteArray := prog_8_method_1_code
abbrev y_Lookup_init : MethodName := ⟨"RangeSheet$Lookup", "<init>", "(IILRangeSheet$Rows;)V"⟩
theorem yk_Lookup_init : yOk y_Lookup_init 3 := by decide +kernel
abbrev b_Law_set : ByteArray := method_5_code
abbrev y_Law_set : MethodName := ⟨"RangeSheetLaw", "set", "(LRangeSheet;III[J)I"⟩
theorem yk_Law_set : yOk y_Law_set 5 := by decide +kernel
abbrev b_Sht_set : ByteArray := prog_1_method_14_code
abbrev y_Sht_set : MethodName := ⟨"RangeSheet", "set", "(III)I"⟩
theorem yk_Sht_set : yOk y_Sht_set 3 := by decide +kernel
abbrev b_Law_because : ByteArray := method_6_code
abbrev y_Law_because : MethodName := ⟨"RangeSheetLaw", "because", "(LRangeSheet;IZ[J)I"⟩
theorem yk_Law_because : yOk y_Law_because 4 := by decide +kernel
abbrev b_Sht_because : ByteArray := prog_1_method_23_code
abbrev y_Sht_because : MethodName := ⟨"RangeSheet", "because", "(IZ)I"⟩
theorem yk_Sht_because : yOk y_Sht_because 2 := by decide +kernel
abbrev b_Sht_bound : ByteArray := prog_1_method_22_code
abbrev y_Sht_bound : MethodName := ⟨"RangeSheet", "bound", "(IZ)I"⟩
theorem yk_Sht_bound : yOk y_Sht_bound 2 := by decide +kernel
abbrev b_Law_solve : ByteArray := method_7_code
abbrev y_Law_solve : MethodName := ⟨"RangeSheetLaw", "solve", "(LRangeSheet;I[J)I"⟩
theorem yk_Law_solve : yOk y_Law_solve 3 := by decide +kernel
abbrev b_Sht_solve : ByteArray := prog_1_method_27_code
abbrev y_Sht_solve : MethodName := ⟨"RangeSheet", "solve", "(I)I"⟩
theorem yk_Sht_solve : yOk y_Sht_solve 1 := by decide +kernel
abbrev b_Sht_begin : ByteArray := prog_1_method_26_code
abbrev y_Sht_begin : MethodName := ⟨"RangeSheet", "begin", "(IZI)I"⟩
theorem yk_Sht_begin : yOk y_Sht_begin 3 := by decide +kernel
abbrev b_Sht_search : ByteArray := prog_1_method_25_code
abbrev y_Sht_search : MethodName := ⟨"RangeSheet", "search", "(I)I"⟩
theorem yk_Sht_search : yOk y_Sht_search 1 := by decide +kernel
abbrev b_Sht_open : ByteArray := prog_1_method_24_code
abbrev y_Sht_open : MethodName := ⟨"RangeSheet", "open", "(LRangeSheet$Box;)I"⟩
theorem yk_Sht_open : yOk y_Sht_open 1 := by decide +kernel
abbrev b_Box_isFixed : ByteArray := prog_3_method_4_code
abbrev y_Box_isFixed : MethodName := ⟨"RangeSheet$Box", "isFixed", "(I)Z"⟩
theorem yk_Box_isFixed : yOk y_Box_isFixed 1 := by decide +kernel
abbrev b_Law_least : ByteArray := method_8_code
abbrev y_Law_least : MethodName := ⟨"RangeSheetLaw", "least", "(LRangeSheet;II[J)I"⟩
theorem yk_Law_least : yOk y_Law_least 4 := by decide +kernel
abbrev b_Sht_least : ByteArray := prog_1_method_29_code
abbrev y_Sht_least : MethodName := ⟨"RangeSheet", "least", "(II)I"⟩
theorem yk_Sht_least : yOk y_Sht_least 2 := by decide +kernel
abbrev b_Sht_extreme : ByteArray := prog_1_method_28_code
abbrev y_Sht_extreme : MethodName := ⟨"RangeSheet", "extreme", "(IZI)I"⟩
theorem yk_Sht_extreme : yOk y_Sht_extreme 3 := by decide +kernel
abbrev b_Law_greatest : ByteArray := method_9_code
abbrev y_Law_greatest : MethodName := ⟨"RangeSheetLaw", "greatest", "(LRangeSheet;II[J)I"⟩
theorem yk_Law_greatest : yOk y_Law_greatest 4 := by decide +kernel
abbrev b_Sht_greatest : ByteArray := prog_1_method_30_code
abbrev y_Sht_greatest : MethodName := ⟨"RangeSheet", "greatest", "(II)I"⟩
theorem yk_Sht_greatest : yOk y_Sht_greatest 2 := by decide +kernel
abbrev b_Mod_init : ByteArray := prog_16_method_1_code
abbrev y_Mod_init : MethodName := ⟨"RangeSheetModel", "<init>", "()V"⟩
theorem yk_Mod_init : yOk y_Mod_init 0 := by decide +kernel
abbrev b_Mod_thrown : ByteArray := prog_16_method_2_code
abbrev y_Mod_thrown : MethodName := ⟨"RangeSheetModel", "thrown", "()I"⟩
theorem yk_Mod_thrown : yOk y_Mod_thrown 0 := by decide +kernel
abbrev b_Mod_cell : ByteArray := prog_16_method_8_code
abbrev y_Mod_cell : MethodName := ⟨"RangeSheetModel", "cell", "(II)I"⟩
theorem yk_Mod_cell : yOk y_Mod_cell 2 := by decide +kernel
abbrev b_Mod_isRange : ByteArray := prog_16_method_7_code
abbrev y_Mod_isRange : MethodName := ⟨"RangeSheetModel", "isRange", "(II)Z"⟩
theorem yk_Mod_isRange : yOk y_Mod_isRange 2 := by decide +kernel
abbrev b_Mod_refuse : ByteArray := prog_16_method_3_code
abbrev y_Mod_refuse : MethodName := ⟨"RangeSheetModel", "refuse", "(I)I"⟩
theorem yk_Mod_refuse : yOk y_Mod_refuse 1 := by decide +kernel
abbrev b_Mod_relate : ByteArray := prog_16_method_12_code
abbrev y_Mod_relate : MethodName := ⟨"RangeSheetModel", "relate", "(IIII)I"⟩
theorem yk_Mod_relate : yOk y_Mod_relate 4 := by decide +kernel
abbrev b_Mod_isRelation : ByteArray := prog_16_method_11_code
abbrev y_Mod_isRelation : MethodName := ⟨"RangeSheetModel", "isRelation", "(IIII)Z"⟩
theorem yk_Mod_isRelation : yOk y_Mod_isRelation 4 := by decide +kernel
abbrev b_Mod_within : ByteArray := prog_16_method_4_code
abbrev y_Mod_within : MethodName := ⟨"RangeSheetModel", "within", "(III)Z"⟩
theorem yk_Mod_within : yOk y_Mod_within 3 := by decide +kernel
abbrev b_Mod_bits : ByteArray := prog_16_method_10_code
abbrev y_Mod_bits : MethodName := ⟨"RangeSheetModel", "bits", "(I)I"⟩
theorem yk_Mod_bits : yOk y_Mod_bits 1 := by decide +kernel
abbrev b_Mod_isCell : ByteArray := prog_16_method_9_code
abbrev y_Mod_isCell : MethodName := ⟨"RangeSheetModel", "isCell", "(I)Z"⟩
theorem yk_Mod_isCell : yOk y_Mod_isCell 1 := by decide +kernel
abbrev b_Mod_hold : ByteArray := prog_16_method_13_code
abbrev y_Mod_hold : MethodName := ⟨"RangeSheetModel", "hold", "(IZ)Z"⟩
theorem yk_Mod_hold : yOk y_Mod_hold 2 := by decide +kernel
abbrev b_Mod_row : ByteArray := prog_16_method_14_code
abbrev y_Mod_row : MethodName := ⟨"RangeSheetModel", "row", "(III)I"⟩
theorem yk_Mod_row : yOk y_Mod_row 3 := by decide +kernel
abbrev b_Mod_set : ByteArray := prog_16_method_15_code
abbrev y_Mod_set : MethodName := ⟨"RangeSheetModel", "set", "(III)I"⟩
theorem yk_Mod_set : yOk y_Mod_set 3 := by decide +kernel
abbrev b_Mod_force : ByteArray := prog_16_method_17_code
abbrev y_Mod_force : MethodName := ⟨"RangeSheetModel", "force", "(IZ)Z"⟩
theorem yk_Mod_force : yOk y_Mod_force 2 := by decide +kernel
abbrev b_Mod_has : ByteArray := prog_16_method_16_code
abbrev y_Mod_has : MethodName := ⟨"RangeSheetModel", "has", "(II)Z"⟩
theorem yk_Mod_has : yOk y_Mod_has 2 := by decide +kernel
abbrev b_Mod_narrow : ByteArray := prog_16_method_38_code
abbrev y_Mod_narrow : MethodName := ⟨"RangeSheetModel", "narrow", "()Z"⟩
theorem yk_Mod_narrow : yOk y_Mod_narrow 0 := by decide +kernel
abbrev b_Mod_narrowWith : ByteArray := prog_16_method_37_code
abbrev y_Mod_narrowWith : MethodName := ⟨"RangeSheetModel", "narrowWith", "(I)Z"⟩
theorem yk_Mod_narrowWith : yOk y_Mod_narrowWith 1 := by decide +kernel
abbrev b_Mod_cut : ByteArray := prog_16_method_18_code
abbrev y_Mod_cut : MethodName := ⟨"RangeSheetModel", "cut", "(IIII)Z"⟩
theorem yk_Mod_cut : yOk y_Mod_cut 4 := by decide +kernel
abbrev b_Mod_greater : ByteArray := prog_16_method_6_code
abbrev y_Mod_greater : MethodName := ⟨"RangeSheetModel", "greater", "(II)I"⟩
theorem yk_Mod_greater : yOk y_Mod_greater 2 := by decide +kernel
abbrev b_Mod_lesser : ByteArray := prog_16_method_5_code
abbrev y_Mod_lesser : MethodName := ⟨"RangeSheetModel", "lesser", "(II)I"⟩
theorem yk_Mod_lesser : yOk y_Mod_lesser 2 := by decide +kernel
abbrev b_Mod_settle : ByteArray := prog_16_method_36_code
abbrev y_Mod_settle : MethodName := ⟨"RangeSheetModel", "settle", "(I)Z"⟩
theorem yk_Mod_settle : yOk y_Mod_settle 1 := by decide +kernel
abbrev b_Mod_narrowBy : ByteArray := prog_16_method_35_code
abbrev y_Mod_narrowBy : MethodName := ⟨"RangeSheetModel", "narrowBy", "(II)Z"⟩
theorem yk_Mod_narrowBy : yOk y_Mod_narrowBy 2 := by decide +kernel
abbrev b_Mod_different : ByteArray := prog_16_method_34_code
abbrev y_Mod_different : MethodName := ⟨"RangeSheetModel", "different", "(II)Z"⟩
theorem yk_Mod_different : yOk y_Mod_different 2 := by decide +kernel
abbrev b_Mod_seats : ByteArray := prog_16_method_33_code
abbrev y_Mod_seats : MethodName := ⟨"RangeSheetModel", "seats", "(IIII)Z"⟩
theorem yk_Mod_seats : yOk y_Mod_seats 4 := by decide +kernel
abbrev b_Mod_lookup : ByteArray := prog_16_method_32_code
abbrev y_Mod_lookup : MethodName := ⟨"RangeSheetModel", "lookup", "(IIII)Z"⟩
theorem yk_Mod_lookup : yOk y_Mod_lookup 4 := by decide +kernel
abbrev b_Mod_clearEnds : ByteArray := prog_16_method_20_code
abbrev y_Mod_clearEnds : MethodName := ⟨"RangeSheetModel", "clearEnds", "()V"⟩
theorem yk_Mod_clearEnds : yOk y_Mod_clearEnds 0 := by decide +kernel
abbrev b_Mod_note : ByteArray := prog_16_method_21_code
abbrev y_Mod_note : MethodName := ⟨"RangeSheetModel", "note", "(IIII)V"⟩
theorem yk_Mod_note : yOk y_Mod_note 4 := by decide +kernel
abbrev b_Mod_atMost : ByteArray := prog_16_method_31_code
abbrev y_Mod_atMost : MethodName := ⟨"RangeSheetModel", "atMost", "(IIII)Z"⟩
theorem yk_Mod_atMost : yOk y_Mod_atMost 4 := by decide +kernel
abbrev b_Mod_byPairs : ByteArray := prog_16_method_23_code
abbrev y_Mod_byPairs : MethodName := ⟨"RangeSheetModel", "byPairs", "(II)Z"⟩
theorem yk_Mod_byPairs : yOk y_Mod_byPairs 2 := by decide +kernel
abbrev b_Mod_thirdOf : ByteArray := prog_16_method_22_code
abbrev y_Mod_thirdOf : MethodName := ⟨"RangeSheetModel", "thirdOf", "(III)I"⟩
theorem yk_Mod_thirdOf : yOk y_Mod_thirdOf 3 := by decide +kernel
abbrev b_Mod_divided : ByteArray := prog_16_method_19_code
abbrev y_Mod_divided : MethodName := ⟨"RangeSheetModel", "divided", "(II)I"⟩
theorem yk_Mod_divided : yOk y_Mod_divided 2 := by decide +kernel
abbrev b_Mod_sum : ByteArray := prog_16_method_24_code
abbrev y_Mod_sum : MethodName := ⟨"RangeSheetModel", "sum", "(IIII)Z"⟩
theorem yk_Mod_sum : yOk y_Mod_sum 4 := by decide +kernel
abbrev b_Mod_implies : ByteArray := prog_16_method_30_code
abbrev y_Mod_implies : MethodName := ⟨"RangeSheetModel", "implies", "(IIII)Z"⟩
theorem yk_Mod_implies : yOk y_Mod_implies 4 := by decide +kernel
abbrev b_Mod_extreme : ByteArray := prog_16_method_28_code
abbrev y_Mod_extreme : MethodName := ⟨"RangeSheetModel", "extreme", "(IIIIZ)Z"⟩
theorem yk_Mod_extreme : yOk y_Mod_extreme 5 := by decide +kernel
abbrev b_Mod_thirdSide : ByteArray := prog_16_method_29_code
abbrev y_Mod_thirdSide : MethodName := ⟨"RangeSheetModel", "thirdSide", "(IIIIII)Z"⟩
theorem yk_Mod_thirdSide : yOk y_Mod_thirdSide 6 := by decide +kernel
abbrev b_Mod_extremeSide : ByteArray := prog_16_method_27_code
abbrev y_Mod_extremeSide : MethodName := ⟨"RangeSheetModel", "extremeSide", "(IIIIZ)Z"⟩
theorem yk_Mod_extremeSide : yOk y_Mod_extremeSide 5 := by decide +kernel
abbrev b_Mod_canBeLesser : ByteArray := prog_16_method_25_code
abbrev y_Mod_canBeLesser : MethodName := ⟨"RangeSheetModel", "canBeLesser", "(IIIII)Z"⟩
theorem yk_Mod_canBeLesser : yOk y_Mod_canBeLesser 5 := by decide +kernel
abbrev b_Mod_canBeGreater : ByteArray := prog_16_method_26_code
abbrev y_Mod_canBeGreater : MethodName := ⟨"RangeSheetModel", "canBeGreater", "(IIIII)Z"⟩
theorem yk_Mod_canBeGreater : yOk y_Mod_canBeGreater 5 := by decide +kernel
abbrev b_Mod_low : ByteArray := prog_16_method_39_code
abbrev y_Mod_low : MethodName := ⟨"RangeSheetModel", "low", "(I)I"⟩
theorem yk_Mod_low : yOk y_Mod_low 1 := by decide +kernel
abbrev b_Mod_high : ByteArray := prog_16_method_40_code
abbrev y_Mod_high : MethodName := ⟨"RangeSheetModel", "high", "(I)I"⟩
theorem yk_Mod_high : yOk y_Mod_high 1 := by decide +kernel
abbrev b_Mod_conflict : ByteArray := prog_16_method_41_code
abbrev y_Mod_conflict : MethodName := ⟨"RangeSheetModel", "conflict", "()I"⟩
theorem yk_Mod_conflict : yOk y_Mod_conflict 0 := by decide +kernel
abbrev b_Mod_because : ByteArray := prog_16_method_42_code
abbrev y_Mod_because : MethodName := ⟨"RangeSheetModel", "because", "(IZ)I"⟩
theorem yk_Mod_because : yOk y_Mod_because 2 := by decide +kernel
abbrev b_Mod_solve : ByteArray := prog_16_method_47_code
abbrev y_Mod_solve : MethodName := ⟨"RangeSheetModel", "solve", "(I)I"⟩
theorem yk_Mod_solve : yOk y_Mod_solve 1 := by decide +kernel
abbrev b_Mod_search : ByteArray := prog_16_method_46_code
abbrev y_Mod_search : MethodName := ⟨"RangeSheetModel", "search", "(IZI)I"⟩
theorem yk_Mod_search : yOk y_Mod_search 3 := by decide +kernel
abbrev b_Mod_openCell : ByteArray := prog_16_method_43_code
abbrev y_Mod_openCell : MethodName := ⟨"RangeSheetModel", "openCell", "(II)I"⟩
theorem yk_Mod_openCell : yOk y_Mod_openCell 2 := by decide +kernel
abbrev b_Mod_keepSetting : ByteArray := prog_16_method_44_code
abbrev y_Mod_keepSetting : MethodName := ⟨"RangeSheetModel", "keepSetting", "(I)V"⟩
theorem yk_Mod_keepSetting : yOk y_Mod_keepSetting 1 := by decide +kernel
abbrev b_Mod_follow : ByteArray := prog_16_method_45_code
abbrev y_Mod_follow : MethodName := ⟨"RangeSheetModel", "follow", "(II)Z"⟩
theorem yk_Mod_follow : yOk y_Mod_follow 2 := by decide +kernel
abbrev b_Mod_least : ByteArray := prog_16_method_49_code
abbrev y_Mod_least : MethodName := ⟨"RangeSheetModel", "least", "(II)I"⟩
theorem yk_Mod_least : yOk y_Mod_least 2 := by decide +kernel
abbrev b_Mod_farthest : ByteArray := prog_16_method_48_code
abbrev y_Mod_farthest : MethodName := ⟨"RangeSheetModel", "farthest", "(IZI)I"⟩
theorem yk_Mod_farthest : yOk y_Mod_farthest 3 := by decide +kernel
abbrev b_Mod_greatest : ByteArray := prog_16_method_50_code
abbrev y_Mod_greatest : MethodName := ⟨"RangeSheetModel", "greatest", "(II)I"⟩
theorem yk_Mod_greatest : yOk y_Mod_greatest 2 := by decide +kernel
abbrev b_Mod_steps : ByteArray := prog_16_method_51_code
abbrev y_Mod_steps : MethodName := ⟨"RangeSheetModel", "steps", "()I"⟩
theorem yk_Mod_steps : yOk y_Mod_steps 0 := by decide +kernel
abbrev b_Mod_value : ByteArray := prog_16_method_52_code
abbrev y_Mod_value : MethodName := ⟨"RangeSheetModel", "value", "(I)I"⟩
theorem yk_Mod_value : yOk y_Mod_value 1 := by decide +kernel
abbrev b_Mod_satisfied : ByteArray := prog_16_method_55_code
abbrev y_Mod_satisfied : MethodName := ⟨"RangeSheetModel", "satisfied", "(I)Z"⟩
theorem yk_Mod_satisfied : yOk y_Mod_satisfied 1 := by decide +kernel
abbrev b_Mod_isDifferent : ByteArray := prog_16_method_53_code
abbrev y_Mod_isDifferent : MethodName := ⟨"RangeSheetModel", "isDifferent", "(I)Z"⟩
theorem yk_Mod_isDifferent : yOk y_Mod_isDifferent 1 := by decide +kernel
abbrev b_Mod_isRow : ByteArray := prog_16_method_54_code
abbrev y_Mod_isRow : MethodName := ⟨"RangeSheetModel", "isRow", "(III)Z"⟩
theorem yk_Mod_isRow : yOk y_Mod_isRow 3 := by decide +kernel
theorem t_0 : (Jvm.Cond.initialized "RangeSheetLaw") ∈ TW := List.mem_filter.mpr ⟨List.mem_append_right _ (List.mem_of_getElem? (i := 0) (by decide +kernel)), rfl⟩
theorem t_1 : (Jvm.Cond.initialized "RangeSheet") ∈ TW := List.mem_filter.mpr ⟨List.mem_append_right _ (List.mem_of_getElem? (i := 1) (by decide +kernel)), rfl⟩
theorem t_2 : (Jvm.Cond.initialized "RangeSheet$Box") ∈ TW := List.mem_filter.mpr ⟨List.mem_append_right _ (List.mem_of_getElem? (i := 2) (by decide +kernel)), rfl⟩
theorem t_3 : (Jvm.Cond.initialized "RangeSheet$Rows") ∈ TW := List.mem_filter.mpr ⟨List.mem_append_right _ (List.mem_of_getElem? (i := 3) (by decide +kernel)), rfl⟩
theorem t_4 : (Jvm.Cond.initialized "RangeSheetModel") ∈ TW := List.mem_filter.mpr ⟨List.mem_append_right _ (List.mem_of_getElem? (i := 4) (by decide +kernel)), rfl⟩
theorem t_5 : (Jvm.Cond.initialized "java/lang/Throwable") ∈ TW := List.mem_filter.mpr ⟨List.mem_append_right _ (List.mem_of_getElem? (i := 5) (by decide +kernel)), rfl⟩
theorem t_6 : (Jvm.Cond.initialized "java/lang/Exception") ∈ TW := List.mem_filter.mpr ⟨List.mem_append_right _ (List.mem_of_getElem? (i := 6) (by decide +kernel)), rfl⟩
theorem t_7 : (Jvm.Cond.initialized "java/lang/RuntimeException") ∈ TW := List.mem_filter.mpr ⟨List.mem_append_right _ (List.mem_of_getElem? (i := 7) (by decide +kernel)), rfl⟩
theorem t_8 : (Jvm.Cond.initialized "java/lang/IllegalArgumentException") ∈ TW := List.mem_filter.mpr ⟨List.mem_append_right _ (List.mem_of_getElem? (i := 8) (by decide +kernel)), rfl⟩
theorem t_9 : (Jvm.Cond.initialized "java/lang/IllegalStateException") ∈ TW := List.mem_filter.mpr ⟨List.mem_append_right _ (List.mem_of_getElem? (i := 9) (by decide +kernel)), rfl⟩
theorem t_10 : (Jvm.Cond.initialized "RangeSheet$Relation") ∈ TW := List.mem_filter.mpr ⟨List.mem_append_right _ (List.mem_of_getElem? (i := 10) (by decide +kernel)), rfl⟩
theorem t_11 : (Jvm.Cond.initialized "RangeSheet$Three") ∈ TW := List.mem_filter.mpr ⟨List.mem_append_right _ (List.mem_of_getElem? (i := 11) (by decide +kernel)), rfl⟩
theorem t_12 : (Jvm.Cond.initialized "RangeSheet$Sum") ∈ TW := List.mem_filter.mpr ⟨List.mem_append_right _ (List.mem_of_getElem? (i := 12) (by decide +kernel)), rfl⟩
theorem t_13 : (Jvm.Cond.initialized "RangeSheet$Product") ∈ TW := List.mem_filter.mpr ⟨List.mem_append_right _ (List.mem_of_getElem? (i := 13) (by decide +kernel)), rfl⟩
theorem t_14 : (Jvm.Cond.initialized "RangeSheet$Quotient") ∈ TW := List.mem_filter.mpr ⟨List.mem_append_right _ (List.mem_of_getElem? (i := 14) (by decide +kernel)), rfl⟩
theorem t_15 : (Jvm.Cond.initialized "RangeSheet$Lesser") ∈ TW := List.mem_filter.mpr ⟨List.mem_append_right _ (List.mem_of_getElem? (i := 15) (by decide +kernel)), rfl⟩
theorem t_16 : (Jvm.Cond.initialized "RangeSheet$Greater") ∈ TW := List.mem_filter.mpr ⟨List.mem_append_right _ (List.mem_of_getElem? (i := 16) (by decide +kernel)), rfl⟩
theorem t_17 : (Jvm.Cond.initialized "RangeSheet$AtMost") ∈ TW := List.mem_filter.mpr ⟨List.mem_append_right _ (List.mem_of_getElem? (i := 17) (by decide +kernel)), rfl⟩
theorem t_18 : (Jvm.Cond.initialized "RangeSheet$If") ∈ TW := List.mem_filter.mpr ⟨List.mem_append_right _ (List.mem_of_getElem? (i := 18) (by decide +kernel)), rfl⟩
theorem t_19 : (Jvm.Cond.initialized "RangeSheet$Different") ∈ TW := List.mem_filter.mpr ⟨List.mem_append_right _ (List.mem_of_getElem? (i := 19) (by decide +kernel)), rfl⟩
theorem t_20 : (Jvm.Cond.initialized "RangeSheet$Lookup") ∈ TW := List.mem_filter.mpr ⟨List.mem_append_right _ (List.mem_of_getElem? (i := 20) (by decide +kernel)), rfl⟩
theorem t_21 : (Jvm.Cond.initialized "java/lang/System") ∈ TW := List.mem_filter.mpr ⟨List.mem_append_right _ (List.mem_of_getElem? (i := 21) (by decide +kernel)), rfl⟩
theorem t_22 : (Jvm.Cond.initialized "java/lang/Math") ∈ TW := List.mem_filter.mpr ⟨List.mem_append_right _ (List.mem_of_getElem? (i := 22) (by decide +kernel)), rfl⟩
theorem t_23 : (Jvm.Cond.classLink "RangeSheetLaw" (8 : Nat) "RangeSheet") ∈ TW := List.mem_filter.mpr ⟨List.mem_append_right _ (List.mem_of_getElem? (i := 23) (by decide +kernel)), rfl⟩
theorem t_24 : (Jvm.Cond.instantiable "RangeSheet" (19 : Nat)) ∈ TW := List.mem_filter.mpr ⟨List.mem_append_right _ (List.mem_of_getElem? (i := 24) (by decide +kernel)), rfl⟩
theorem t_25 : (Jvm.Cond.methodLink "RangeSheetLaw" (39 : Nat) ({ cls := "RangeSheet", name := "<init>", desc := "()V" } : Jvm.MethodName)) ∈ TW := List.mem_filter.mpr ⟨List.mem_append_right _ (List.mem_of_getElem? (i := 25) (by decide +kernel)), rfl⟩
theorem t_26 : (Jvm.Cond.instanceMethod ({ cls := "RangeSheet", name := "<init>", desc := "()V" } : Jvm.MethodName)) ∈ TW := List.mem_filter.mpr ⟨List.mem_append_right _ (List.mem_of_getElem? (i := 26) (by decide +kernel)), rfl⟩
theorem t_27 : (Jvm.Cond.code ({ cls := "RangeSheet", name := "<init>", desc := "()V" } : Jvm.MethodName) prog_1_method_2_code (2 : Nat) (Option.none : Option Jvm.ClassFile.FieldType)) ∈ TW := List.mem_filter.mpr ⟨List.mem_append_right _ (List.mem_of_getElem? (i := 27) (by decide +kernel)), rfl⟩
theorem t_28 : (Jvm.Cond.methodLink "RangeSheet" (7 : Nat) ({ cls := "java/lang/Object", name := "<init>", desc := "()V" } : Jvm.MethodName)) ∈ TW := List.mem_filter.mpr ⟨List.mem_append_right _ (List.mem_of_getElem? (i := 28) (by decide +kernel)), rfl⟩
theorem t_29 : (Jvm.Cond.instanceMethod ({ cls := "java/lang/Object", name := "<init>", desc := "()V" } : Jvm.MethodName)) ∈ TW := List.mem_filter.mpr ⟨List.mem_append_right _ (List.mem_of_getElem? (i := 29) (by decide +kernel)), rfl⟩
theorem t_30 : (Jvm.Cond.code ({ cls := "java/lang/Object", name := "<init>", desc := "()V" } : Jvm.MethodName) object_method_1_code (1 : Nat) (Option.none : Option Jvm.ClassFile.FieldType)) ∈ TW := List.mem_filter.mpr ⟨List.mem_append_right _ (List.mem_of_getElem? (i := 30) (by decide +kernel)), rfl⟩
theorem t_31 : (Jvm.Cond.classLink "RangeSheet" (13 : Nat) "RangeSheet$Box") ∈ TW := List.mem_filter.mpr ⟨List.mem_append_right _ (List.mem_of_getElem? (i := 31) (by decide +kernel)), rfl⟩
theorem t_32 : (Jvm.Cond.instantiable "RangeSheet$Box" (3 : Nat)) ∈ TW := List.mem_filter.mpr ⟨List.mem_append_right _ (List.mem_of_getElem? (i := 32) (by decide +kernel)), rfl⟩
theorem t_33 : (Jvm.Cond.methodLinkNest "RangeSheet" (15 : Nat) ({ cls := "RangeSheet$Box", name := "<init>", desc := "()V" } : Jvm.MethodName) "RangeSheet") ∈ TW := List.mem_filter.mpr ⟨List.mem_append_right _ (List.mem_of_getElem? (i := 33) (by decide +kernel)), rfl⟩
theorem t_34 : (Jvm.Cond.instanceMethod ({ cls := "RangeSheet$Box", name := "<init>", desc := "()V" } : Jvm.MethodName)) ∈ TW := List.mem_filter.mpr ⟨List.mem_append_right _ (List.mem_of_getElem? (i := 34) (by decide +kernel)), rfl⟩
theorem t_35 : (Jvm.Cond.code ({ cls := "RangeSheet$Box", name := "<init>", desc := "()V" } : Jvm.MethodName) prog_3_method_1_code (1 : Nat) (Option.none : Option Jvm.ClassFile.FieldType)) ∈ TW := List.mem_filter.mpr ⟨List.mem_append_right _ (List.mem_of_getElem? (i := 35) (by decide +kernel)), rfl⟩
theorem t_36 : (Jvm.Cond.methodLink "RangeSheet$Box" (3 : Nat) ({ cls := "java/lang/Object", name := "<init>", desc := "()V" } : Jvm.MethodName)) ∈ TW := List.mem_filter.mpr ⟨List.mem_append_right _ (List.mem_of_getElem? (i := 36) (by decide +kernel)), rfl⟩
theorem t_37 : (Jvm.Cond.fieldLink "RangeSheet$Box" (9 : Nat) "RangeSheet$Box" "low" "[I") ∈ TW := List.mem_filter.mpr ⟨List.mem_append_right _ (List.mem_of_getElem? (i := 37) (by decide +kernel)), rfl⟩
theorem t_38 : (Jvm.Cond.fieldLinkNest "RangeSheet$Lookup" (40 : Nat) "RangeSheet$Box" "low" "[I" "RangeSheet") ∈ TW := List.mem_filter.mpr ⟨List.mem_append_right _ (List.mem_of_getElem? (i := 38) (by decide +kernel)), rfl⟩
theorem t_39 : (Jvm.Cond.fieldLinkNest "RangeSheet$AtMost" (25 : Nat) "RangeSheet$Box" "low" "[I" "RangeSheet") ∈ TW := List.mem_filter.mpr ⟨List.mem_append_right _ (List.mem_of_getElem? (i := 39) (by decide +kernel)), rfl⟩
theorem t_40 : (Jvm.Cond.fieldLinkNest "RangeSheet$Different" (19 : Nat) "RangeSheet$Box" "low" "[I" "RangeSheet") ∈ TW := List.mem_filter.mpr ⟨List.mem_append_right _ (List.mem_of_getElem? (i := 40) (by decide +kernel)), rfl⟩
theorem t_41 : (Jvm.Cond.fieldLinkNest "RangeSheet$Three" (52 : Nat) "RangeSheet$Box" "low" "[I" "RangeSheet") ∈ TW := List.mem_filter.mpr ⟨List.mem_append_right _ (List.mem_of_getElem? (i := 41) (by decide +kernel)), rfl⟩
theorem t_42 : (Jvm.Cond.fieldLinkNest "RangeSheet" (80 : Nat) "RangeSheet$Box" "low" "[I" "RangeSheet") ∈ TW := List.mem_filter.mpr ⟨List.mem_append_right _ (List.mem_of_getElem? (i := 42) (by decide +kernel)), rfl⟩
theorem t_43 : (Jvm.Cond.fieldLink "RangeSheet$Box" (15 : Nat) "RangeSheet$Box" "high" "[I") ∈ TW := List.mem_filter.mpr ⟨List.mem_append_right _ (List.mem_of_getElem? (i := 43) (by decide +kernel)), rfl⟩
theorem t_44 : (Jvm.Cond.fieldLinkNest "RangeSheet$Lookup" (45 : Nat) "RangeSheet$Box" "high" "[I" "RangeSheet") ∈ TW := List.mem_filter.mpr ⟨List.mem_append_right _ (List.mem_of_getElem? (i := 44) (by decide +kernel)), rfl⟩
theorem t_45 : (Jvm.Cond.fieldLinkNest "RangeSheet$AtMost" (31 : Nat) "RangeSheet$Box" "high" "[I" "RangeSheet") ∈ TW := List.mem_filter.mpr ⟨List.mem_append_right _ (List.mem_of_getElem? (i := 45) (by decide +kernel)), rfl⟩
theorem t_46 : (Jvm.Cond.fieldLinkNest "RangeSheet$Different" (25 : Nat) "RangeSheet$Box" "high" "[I" "RangeSheet") ∈ TW := List.mem_filter.mpr ⟨List.mem_append_right _ (List.mem_of_getElem? (i := 46) (by decide +kernel)), rfl⟩
theorem t_47 : (Jvm.Cond.fieldLinkNest "RangeSheet$Three" (58 : Nat) "RangeSheet$Box" "high" "[I" "RangeSheet") ∈ TW := List.mem_filter.mpr ⟨List.mem_append_right _ (List.mem_of_getElem? (i := 47) (by decide +kernel)), rfl⟩
theorem t_48 : (Jvm.Cond.fieldLinkNest "RangeSheet" (83 : Nat) "RangeSheet$Box" "high" "[I" "RangeSheet") ∈ TW := List.mem_filter.mpr ⟨List.mem_append_right _ (List.mem_of_getElem? (i := 48) (by decide +kernel)), rfl⟩
theorem t_49 : (Jvm.Cond.fieldLink "RangeSheet$Box" (24 : Nat) "RangeSheet$Box" "changed" "Z") ∈ TW := List.mem_filter.mpr ⟨List.mem_append_right _ (List.mem_of_getElem? (i := 49) (by decide +kernel)), rfl⟩
theorem t_50 : (Jvm.Cond.fieldLinkNest "RangeSheet$Different" (40 : Nat) "RangeSheet$Box" "changed" "Z" "RangeSheet") ∈ TW := List.mem_filter.mpr ⟨List.mem_append_right _ (List.mem_of_getElem? (i := 50) (by decide +kernel)), rfl⟩
theorem t_51 : (Jvm.Cond.fieldLinkNest "RangeSheet" (153 : Nat) "RangeSheet$Box" "changed" "Z" "RangeSheet") ∈ TW := List.mem_filter.mpr ⟨List.mem_append_right _ (List.mem_of_getElem? (i := 51) (by decide +kernel)), rfl⟩
theorem t_59 : (Jvm.Cond.arrayClass Jvm.ClassFile.FieldType.int) ∈ TW := List.mem_filter.mpr ⟨List.mem_append_right _ (List.mem_of_getElem? (i := 59) (by decide +kernel)), rfl⟩
theorem t_60 : (Jvm.Cond.classLink "RangeSheet" (22 : Nat) "RangeSheet$Relation") ∈ TW := List.mem_filter.mpr ⟨List.mem_append_right _ (List.mem_of_getElem? (i := 60) (by decide +kernel)), rfl⟩
theorem t_61 : (Jvm.Cond.arrayOver (Jvm.ClassFile.FieldType.object "RangeSheet$Relation")) ∈ TW := List.mem_filter.mpr ⟨List.mem_append_right _ (List.mem_of_getElem? (i := 61) (by decide +kernel)), rfl⟩
theorem t_62 : (Jvm.Cond.classLink "RangeSheet" (28 : Nat) "RangeSheet$Rows") ∈ TW := List.mem_filter.mpr ⟨List.mem_append_right _ (List.mem_of_getElem? (i := 62) (by decide +kernel)), rfl⟩
theorem t_63 : (Jvm.Cond.arrayOver (Jvm.ClassFile.FieldType.object "RangeSheet$Rows")) ∈ TW := List.mem_filter.mpr ⟨List.mem_append_right _ (List.mem_of_getElem? (i := 63) (by decide +kernel)), rfl⟩
theorem t_64 : (Jvm.Cond.instantiable "RangeSheet$Rows" (3 : Nat)) ∈ TW := List.mem_filter.mpr ⟨List.mem_append_right _ (List.mem_of_getElem? (i := 64) (by decide +kernel)), rfl⟩
theorem t_65 : (Jvm.Cond.methodLinkNest "RangeSheet" (30 : Nat) ({ cls := "RangeSheet$Rows", name := "<init>", desc := "()V" } : Jvm.MethodName) "RangeSheet") ∈ TW := List.mem_filter.mpr ⟨List.mem_append_right _ (List.mem_of_getElem? (i := 65) (by decide +kernel)), rfl⟩
theorem t_66 : (Jvm.Cond.instanceMethod ({ cls := "RangeSheet$Rows", name := "<init>", desc := "()V" } : Jvm.MethodName)) ∈ TW := List.mem_filter.mpr ⟨List.mem_append_right _ (List.mem_of_getElem? (i := 66) (by decide +kernel)), rfl⟩
theorem t_67 : (Jvm.Cond.code ({ cls := "RangeSheet$Rows", name := "<init>", desc := "()V" } : Jvm.MethodName) prog_12_method_1_code (1 : Nat) (Option.none : Option Jvm.ClassFile.FieldType)) ∈ TW := List.mem_filter.mpr ⟨List.mem_append_right _ (List.mem_of_getElem? (i := 67) (by decide +kernel)), rfl⟩
theorem t_68 : (Jvm.Cond.methodLink "RangeSheet$Rows" (1 : Nat) ({ cls := "java/lang/Object", name := "<init>", desc := "()V" } : Jvm.MethodName)) ∈ TW := List.mem_filter.mpr ⟨List.mem_append_right _ (List.mem_of_getElem? (i := 68) (by decide +kernel)), rfl⟩
theorem t_69 : (Jvm.Cond.fieldLink "RangeSheet$Rows" (7 : Nat) "RangeSheet$Rows" "xs" "[I") ∈ TW := List.mem_filter.mpr ⟨List.mem_append_right _ (List.mem_of_getElem? (i := 69) (by decide +kernel)), rfl⟩
theorem t_70 : (Jvm.Cond.fieldLinkNest "RangeSheet$Lookup" (33 : Nat) "RangeSheet$Rows" "xs" "[I" "RangeSheet") ∈ TW := List.mem_filter.mpr ⟨List.mem_append_right _ (List.mem_of_getElem? (i := 70) (by decide +kernel)), rfl⟩
theorem t_71 : (Jvm.Cond.fieldLinkNest "RangeSheet" (141 : Nat) "RangeSheet$Rows" "xs" "[I" "RangeSheet") ∈ TW := List.mem_filter.mpr ⟨List.mem_append_right _ (List.mem_of_getElem? (i := 71) (by decide +kernel)), rfl⟩
theorem t_72 : (Jvm.Cond.fieldLink "RangeSheet$Rows" (13 : Nat) "RangeSheet$Rows" "ys" "[I") ∈ TW := List.mem_filter.mpr ⟨List.mem_append_right _ (List.mem_of_getElem? (i := 72) (by decide +kernel)), rfl⟩
theorem t_73 : (Jvm.Cond.fieldLinkNest "RangeSheet$Lookup" (37 : Nat) "RangeSheet$Rows" "ys" "[I" "RangeSheet") ∈ TW := List.mem_filter.mpr ⟨List.mem_append_right _ (List.mem_of_getElem? (i := 73) (by decide +kernel)), rfl⟩
theorem t_74 : (Jvm.Cond.fieldLinkNest "RangeSheet" (144 : Nat) "RangeSheet$Rows" "ys" "[I" "RangeSheet") ∈ TW := List.mem_filter.mpr ⟨List.mem_append_right _ (List.mem_of_getElem? (i := 74) (by decide +kernel)), rfl⟩
theorem t_75 : (Jvm.Cond.fieldLinkNest "RangeSheet$Lookup" (28 : Nat) "RangeSheet$Rows" "count" "I" "RangeSheet") ∈ TW := List.mem_filter.mpr ⟨List.mem_append_right _ (List.mem_of_getElem? (i := 75) (by decide +kernel)), rfl⟩
theorem t_76 : (Jvm.Cond.fieldLinkNest "RangeSheet" (138 : Nat) "RangeSheet$Rows" "count" "I" "RangeSheet") ∈ TW := List.mem_filter.mpr ⟨List.mem_append_right _ (List.mem_of_getElem? (i := 76) (by decide +kernel)), rfl⟩
theorem t_84 : (Jvm.Cond.arrayOver (Jvm.ClassFile.FieldType.object "RangeSheet$Box")) ∈ TW := List.mem_filter.mpr ⟨List.mem_append_right _ (List.mem_of_getElem? (i := 84) (by decide +kernel)), rfl⟩
theorem t_85 : (Jvm.Cond.fieldLink "RangeSheet" (16 : Nat) "RangeSheet" "first" "LRangeSheet$Box;") ∈ TW := List.mem_filter.mpr ⟨List.mem_append_right _ (List.mem_of_getElem? (i := 85) (by decide +kernel)), rfl⟩
theorem t_86 : (Jvm.Cond.fieldLink "RangeSheet" (55 : Nat) "RangeSheet" "cells" "I") ∈ TW := List.mem_filter.mpr ⟨List.mem_append_right _ (List.mem_of_getElem? (i := 86) (by decide +kernel)), rfl⟩
theorem t_87 : (Jvm.Cond.fieldLink "RangeSheet" (24 : Nat) "RangeSheet" "relations" "[LRangeSheet$Relation;") ∈ TW := List.mem_filter.mpr ⟨List.mem_append_right _ (List.mem_of_getElem? (i := 87) (by decide +kernel)), rfl⟩
theorem t_88 : (Jvm.Cond.fieldLink "RangeSheet" (127 : Nat) "RangeSheet" "relationCount" "I") ∈ TW := List.mem_filter.mpr ⟨List.mem_append_right _ (List.mem_of_getElem? (i := 88) (by decide +kernel)), rfl⟩
theorem t_89 : (Jvm.Cond.fieldLink "RangeSheet" (31 : Nat) "RangeSheet" "tables" "[LRangeSheet$Rows;") ∈ TW := List.mem_filter.mpr ⟨List.mem_append_right _ (List.mem_of_getElem? (i := 89) (by decide +kernel)), rfl⟩
theorem t_90 : (Jvm.Cond.fieldLink "RangeSheet" (35 : Nat) "RangeSheet" "entryCell" "[I") ∈ TW := List.mem_filter.mpr ⟨List.mem_append_right _ (List.mem_of_getElem? (i := 90) (by decide +kernel)), rfl⟩
theorem t_91 : (Jvm.Cond.fieldLink "RangeSheet" (39 : Nat) "RangeSheet" "entryLow" "[I") ∈ TW := List.mem_filter.mpr ⟨List.mem_append_right _ (List.mem_of_getElem? (i := 91) (by decide +kernel)), rfl⟩
theorem t_92 : (Jvm.Cond.fieldLink "RangeSheet" (42 : Nat) "RangeSheet" "entryHigh" "[I") ∈ TW := List.mem_filter.mpr ⟨List.mem_append_right _ (List.mem_of_getElem? (i := 92) (by decide +kernel)), rfl⟩
theorem t_93 : (Jvm.Cond.fieldLink "RangeSheet" (147 : Nat) "RangeSheet" "entries" "I") ∈ TW := List.mem_filter.mpr ⟨List.mem_append_right _ (List.mem_of_getElem? (i := 93) (by decide +kernel)), rfl⟩
theorem t_94 : (Jvm.Cond.fieldLink "RangeSheet" (150 : Nat) "RangeSheet" "force" "I") ∈ TW := List.mem_filter.mpr ⟨List.mem_append_right _ (List.mem_of_getElem? (i := 94) (by decide +kernel)), rfl⟩
theorem t_95 : (Jvm.Cond.fieldLink "RangeSheet" (45 : Nat) "RangeSheet" "narrowed" "LRangeSheet$Box;") ∈ TW := List.mem_filter.mpr ⟨List.mem_append_right _ (List.mem_of_getElem? (i := 95) (by decide +kernel)), rfl⟩
theorem t_96 : (Jvm.Cond.fieldLink "RangeSheet" (173 : Nat) "RangeSheet" "told" "I") ∈ TW := List.mem_filter.mpr ⟨List.mem_append_right _ (List.mem_of_getElem? (i := 96) (by decide +kernel)), rfl⟩
theorem t_97 : (Jvm.Cond.fieldLink "RangeSheet" (48 : Nat) "RangeSheet" "boxes" "[LRangeSheet$Box;") ∈ TW := List.mem_filter.mpr ⟨List.mem_append_right _ (List.mem_of_getElem? (i := 97) (by decide +kernel)), rfl⟩
theorem t_98 : (Jvm.Cond.fieldLink "RangeSheet" (205 : Nat) "RangeSheet" "limit" "I") ∈ TW := List.mem_filter.mpr ⟨List.mem_append_right _ (List.mem_of_getElem? (i := 98) (by decide +kernel)), rfl⟩
theorem t_99 : (Jvm.Cond.fieldLink "RangeSheet" (202 : Nat) "RangeSheet" "steps" "I") ∈ TW := List.mem_filter.mpr ⟨List.mem_append_right _ (List.mem_of_getElem? (i := 99) (by decide +kernel)), rfl⟩
theorem t_100 : (Jvm.Cond.fieldLink "RangeSheet" (180 : Nat) "RangeSheet" "leader" "I") ∈ TW := List.mem_filter.mpr ⟨List.mem_append_right _ (List.mem_of_getElem? (i := 100) (by decide +kernel)), rfl⟩
theorem t_101 : (Jvm.Cond.fieldLink "RangeSheet" (199 : Nat) "RangeSheet" "down" "Z") ∈ TW := List.mem_filter.mpr ⟨List.mem_append_right _ (List.mem_of_getElem? (i := 101) (by decide +kernel)), rfl⟩
theorem t_102 : (Jvm.Cond.fieldLink "RangeSheet" (52 : Nat) "RangeSheet" "setting" "[I") ∈ TW := List.mem_filter.mpr ⟨List.mem_append_right _ (List.mem_of_getElem? (i := 102) (by decide +kernel)), rfl⟩
theorem t_103 : (Jvm.Cond.fieldLink "RangeSheet" (196 : Nat) "RangeSheet" "settled" "I") ∈ TW := List.mem_filter.mpr ⟨List.mem_append_right _ (List.mem_of_getElem? (i := 103) (by decide +kernel)), rfl⟩
theorem t_143 : (Jvm.Cond.methodLink "RangeSheetLaw" (57 : Nat) ({ cls := "RangeSheet", name := "hold", desc := "(IZ)Z" } : Jvm.MethodName)) ∈ TW := List.mem_filter.mpr ⟨List.mem_append_right _ (List.mem_of_getElem? (i := 143) (by decide +kernel)), rfl⟩
theorem t_144 : (Jvm.Cond.instanceMethod ({ cls := "RangeSheet", name := "hold", desc := "(IZ)Z" } : Jvm.MethodName)) ∈ TW := List.mem_filter.mpr ⟨List.mem_append_right _ (List.mem_of_getElem? (i := 144) (by decide +kernel)), rfl⟩
theorem t_145 : (Jvm.Cond.selects "RangeSheet" ({ cls := "RangeSheet", name := "hold", desc := "(IZ)Z" } : Jvm.MethodName) ({ cls := "RangeSheet", name := "hold", desc := "(IZ)Z" } : Jvm.MethodName)) ∈ TW := List.mem_filter.mpr ⟨List.mem_append_right _ (List.mem_of_getElem? (i := 145) (by decide +kernel)), rfl⟩
theorem t_146 : (Jvm.Cond.code ({ cls := "RangeSheet", name := "hold", desc := "(IZ)Z" } : Jvm.MethodName) prog_1_method_12_code (3 : Nat) (Option.some Jvm.ClassFile.FieldType.boolean)) ∈ TW := List.mem_filter.mpr ⟨List.mem_append_right _ (List.mem_of_getElem? (i := 146) (by decide +kernel)), rfl⟩
theorem t_147 : (Jvm.Cond.methodLink "RangeSheet" (59 : Nat) ({ cls := "RangeSheet", name := "within", desc := "(III)Z" } : Jvm.MethodName)) ∈ TW := List.mem_filter.mpr ⟨List.mem_append_right _ (List.mem_of_getElem? (i := 147) (by decide +kernel)), rfl⟩
theorem t_148 : (Jvm.Cond.static ({ cls := "RangeSheet", name := "within", desc := "(III)Z" } : Jvm.MethodName)) ∈ TW := List.mem_filter.mpr ⟨List.mem_append_right _ (List.mem_of_getElem? (i := 148) (by decide +kernel)), rfl⟩
theorem t_149 : (Jvm.Cond.code ({ cls := "RangeSheet", name := "within", desc := "(III)Z" } : Jvm.MethodName) prog_1_method_3_code (3 : Nat) (Option.some Jvm.ClassFile.FieldType.boolean)) ∈ TW := List.mem_filter.mpr ⟨List.mem_append_right _ (List.mem_of_getElem? (i := 149) (by decide +kernel)), rfl⟩
theorem t_150 : (Jvm.Cond.methodLink "RangeSheetLaw" (62 : Nat) ({ cls := "RangeSheet", name := "row", desc := "(III)I" } : Jvm.MethodName)) ∈ TW := List.mem_filter.mpr ⟨List.mem_append_right _ (List.mem_of_getElem? (i := 150) (by decide +kernel)), rfl⟩
theorem t_151 : (Jvm.Cond.instanceMethod ({ cls := "RangeSheet", name := "row", desc := "(III)I" } : Jvm.MethodName)) ∈ TW := List.mem_filter.mpr ⟨List.mem_append_right _ (List.mem_of_getElem? (i := 151) (by decide +kernel)), rfl⟩
theorem t_152 : (Jvm.Cond.selects "RangeSheet" ({ cls := "RangeSheet", name := "row", desc := "(III)I" } : Jvm.MethodName) ({ cls := "RangeSheet", name := "row", desc := "(III)I" } : Jvm.MethodName)) ∈ TW := List.mem_filter.mpr ⟨List.mem_append_right _ (List.mem_of_getElem? (i := 152) (by decide +kernel)), rfl⟩
theorem t_153 : (Jvm.Cond.code ({ cls := "RangeSheet", name := "row", desc := "(III)I" } : Jvm.MethodName) prog_1_method_13_code (4 : Nat) (Option.some Jvm.ClassFile.FieldType.int)) ∈ TW := List.mem_filter.mpr ⟨List.mem_append_right _ (List.mem_of_getElem? (i := 153) (by decide +kernel)), rfl⟩
theorem t_154 : (Jvm.Cond.methodLink "RangeSheetLaw" (70 : Nat) ({ cls := "RangeSheet", name := "force", desc := "(IZ)Z" } : Jvm.MethodName)) ∈ TW := List.mem_filter.mpr ⟨List.mem_append_right _ (List.mem_of_getElem? (i := 154) (by decide +kernel)), rfl⟩
theorem t_155 : (Jvm.Cond.instanceMethod ({ cls := "RangeSheet", name := "force", desc := "(IZ)Z" } : Jvm.MethodName)) ∈ TW := List.mem_filter.mpr ⟨List.mem_append_right _ (List.mem_of_getElem? (i := 155) (by decide +kernel)), rfl⟩
theorem t_156 : (Jvm.Cond.selects "RangeSheet" ({ cls := "RangeSheet", name := "force", desc := "(IZ)Z" } : Jvm.MethodName) ({ cls := "RangeSheet", name := "force", desc := "(IZ)Z" } : Jvm.MethodName)) ∈ TW := List.mem_filter.mpr ⟨List.mem_append_right _ (List.mem_of_getElem? (i := 156) (by decide +kernel)), rfl⟩
theorem t_157 : (Jvm.Cond.code ({ cls := "RangeSheet", name := "force", desc := "(IZ)Z" } : Jvm.MethodName) prog_1_method_15_code (3 : Nat) (Option.some Jvm.ClassFile.FieldType.boolean)) ∈ TW := List.mem_filter.mpr ⟨List.mem_append_right _ (List.mem_of_getElem? (i := 157) (by decide +kernel)), rfl⟩
theorem t_158 : (Jvm.Cond.methodLink "RangeSheetLaw" (74 : Nat) ({ cls := "RangeSheet", name := "narrow", desc := "()Z" } : Jvm.MethodName)) ∈ TW := List.mem_filter.mpr ⟨List.mem_append_right _ (List.mem_of_getElem? (i := 158) (by decide +kernel)), rfl⟩
theorem t_159 : (Jvm.Cond.instanceMethod ({ cls := "RangeSheet", name := "narrow", desc := "()Z" } : Jvm.MethodName)) ∈ TW := List.mem_filter.mpr ⟨List.mem_append_right _ (List.mem_of_getElem? (i := 159) (by decide +kernel)), rfl⟩
theorem t_160 : (Jvm.Cond.selects "RangeSheet" ({ cls := "RangeSheet", name := "narrow", desc := "()Z" } : Jvm.MethodName) ({ cls := "RangeSheet", name := "narrow", desc := "()Z" } : Jvm.MethodName)) ∈ TW := List.mem_filter.mpr ⟨List.mem_append_right _ (List.mem_of_getElem? (i := 160) (by decide +kernel)), rfl⟩
theorem t_161 : (Jvm.Cond.code ({ cls := "RangeSheet", name := "narrow", desc := "()Z" } : Jvm.MethodName) prog_1_method_18_code (2 : Nat) (Option.some Jvm.ClassFile.FieldType.boolean)) ∈ TW := List.mem_filter.mpr ⟨List.mem_append_right _ (List.mem_of_getElem? (i := 161) (by decide +kernel)), rfl⟩
theorem t_162 : (Jvm.Cond.methodLink "RangeSheet" (170 : Nat) ({ cls := "RangeSheet", name := "narrowWith", desc := "(I)Z" } : Jvm.MethodName)) ∈ TW := List.mem_filter.mpr ⟨List.mem_append_right _ (List.mem_of_getElem? (i := 162) (by decide +kernel)), rfl⟩
theorem t_164 : (Jvm.Cond.instanceMethod ({ cls := "RangeSheet", name := "narrowWith", desc := "(I)Z" } : Jvm.MethodName)) ∈ TW := List.mem_filter.mpr ⟨List.mem_append_right _ (List.mem_of_getElem? (i := 164) (by decide +kernel)), rfl⟩
theorem t_165 : (Jvm.Cond.code ({ cls := "RangeSheet", name := "narrowWith", desc := "(I)Z" } : Jvm.MethodName) prog_1_method_17_code (5 : Nat) (Option.some Jvm.ClassFile.FieldType.boolean)) ∈ TW := List.mem_filter.mpr ⟨List.mem_append_right _ (List.mem_of_getElem? (i := 165) (by decide +kernel)), rfl⟩
theorem t_166 : (Jvm.Cond.methodLink "RangeSheet" (160 : Nat) ({ cls := "RangeSheet$Box", name := "copy", desc := "(LRangeSheet$Box;)V" } : Jvm.MethodName)) ∈ TW := List.mem_filter.mpr ⟨List.mem_append_right _ (List.mem_of_getElem? (i := 166) (by decide +kernel)), rfl⟩
theorem t_167 : (Jvm.Cond.instanceMethod ({ cls := "RangeSheet$Box", name := "copy", desc := "(LRangeSheet$Box;)V" } : Jvm.MethodName)) ∈ TW := List.mem_filter.mpr ⟨List.mem_append_right _ (List.mem_of_getElem? (i := 167) (by decide +kernel)), rfl⟩
theorem t_168 : (Jvm.Cond.selects "RangeSheet$Box" ({ cls := "RangeSheet$Box", name := "copy", desc := "(LRangeSheet$Box;)V" } : Jvm.MethodName) ({ cls := "RangeSheet$Box", name := "copy", desc := "(LRangeSheet$Box;)V" } : Jvm.MethodName)) ∈ TW := List.mem_filter.mpr ⟨List.mem_append_right _ (List.mem_of_getElem? (i := 168) (by decide +kernel)), rfl⟩
theorem t_169 : (Jvm.Cond.code ({ cls := "RangeSheet$Box", name := "copy", desc := "(LRangeSheet$Box;)V" } : Jvm.MethodName) prog_3_method_2_code (2 : Nat) (Option.none : Option Jvm.ClassFile.FieldType)) ∈ TW := List.mem_filter.mpr ⟨List.mem_append_right _ (List.mem_of_getElem? (i := 169) (by decide +kernel)), rfl⟩
theorem t_170 : (Jvm.Cond.methodLink "RangeSheet$Box" (18 : Nat) ({ cls := "java/lang/System", name := "arraycopy", desc := "(Ljava/lang/Object;ILjava/lang/Object;II)V" } : Jvm.MethodName)) ∈ TW := List.mem_filter.mpr ⟨List.mem_append_right _ (List.mem_of_getElem? (i := 170) (by decide +kernel)), rfl⟩
theorem t_171 : (Jvm.Cond.static ({ cls := "java/lang/System", name := "arraycopy", desc := "(Ljava/lang/Object;ILjava/lang/Object;II)V" } : Jvm.MethodName)) ∈ TW := List.mem_filter.mpr ⟨List.mem_append_right _ (List.mem_of_getElem? (i := 171) (by decide +kernel)), rfl⟩
theorem t_172 : (Jvm.Cond.native ({ cls := "java/lang/System", name := "arraycopy", desc := "(Ljava/lang/Object;ILjava/lang/Object;II)V" } : Jvm.MethodName)) ∈ TW := List.mem_filter.mpr ⟨List.mem_append_right _ (List.mem_of_getElem? (i := 172) (by decide +kernel)), rfl⟩
theorem t_173 : (Jvm.Cond.methodLink "RangeSheet" (164 : Nat) ({ cls := "RangeSheet$Box", name := "cut", desc := "(III)Z" } : Jvm.MethodName)) ∈ TW := List.mem_filter.mpr ⟨List.mem_append_right _ (List.mem_of_getElem? (i := 173) (by decide +kernel)), rfl⟩
theorem t_174 : (Jvm.Cond.instanceMethod ({ cls := "RangeSheet$Box", name := "cut", desc := "(III)Z" } : Jvm.MethodName)) ∈ TW := List.mem_filter.mpr ⟨List.mem_append_right _ (List.mem_of_getElem? (i := 174) (by decide +kernel)), rfl⟩
theorem t_175 : (Jvm.Cond.selects "RangeSheet$Box" ({ cls := "RangeSheet$Box", name := "cut", desc := "(III)Z" } : Jvm.MethodName) ({ cls := "RangeSheet$Box", name := "cut", desc := "(III)Z" } : Jvm.MethodName)) ∈ TW := List.mem_filter.mpr ⟨List.mem_append_right _ (List.mem_of_getElem? (i := 175) (by decide +kernel)), rfl⟩
theorem t_176 : (Jvm.Cond.code ({ cls := "RangeSheet$Box", name := "cut", desc := "(III)Z" } : Jvm.MethodName) prog_3_method_3_code (4 : Nat) (Option.some Jvm.ClassFile.FieldType.boolean)) ∈ TW := List.mem_filter.mpr ⟨List.mem_append_right _ (List.mem_of_getElem? (i := 176) (by decide +kernel)), rfl⟩
theorem t_177 : (Jvm.Cond.methodLink "RangeSheet$Box" (28 : Nat) ({ cls := "java/lang/Math", name := "max", desc := "(II)I" } : Jvm.MethodName)) ∈ TW := List.mem_filter.mpr ⟨List.mem_append_right _ (List.mem_of_getElem? (i := 177) (by decide +kernel)), rfl⟩
theorem t_178 : (Jvm.Cond.static ({ cls := "java/lang/Math", name := "max", desc := "(II)I" } : Jvm.MethodName)) ∈ TW := List.mem_filter.mpr ⟨List.mem_append_right _ (List.mem_of_getElem? (i := 178) (by decide +kernel)), rfl⟩
theorem t_179 : (Jvm.Cond.code ({ cls := "java/lang/Math", name := "max", desc := "(II)I" } : Jvm.MethodName) prog_20_method_65_code (2 : Nat) (Option.some Jvm.ClassFile.FieldType.int)) ∈ TW := List.mem_filter.mpr ⟨List.mem_append_right _ (List.mem_of_getElem? (i := 179) (by decide +kernel)), rfl⟩
theorem t_180 : (Jvm.Cond.methodLink "RangeSheet$Box" (34 : Nat) ({ cls := "java/lang/Math", name := "min", desc := "(II)I" } : Jvm.MethodName)) ∈ TW := List.mem_filter.mpr ⟨List.mem_append_right _ (List.mem_of_getElem? (i := 180) (by decide +kernel)), rfl⟩
theorem t_181 : (Jvm.Cond.static ({ cls := "java/lang/Math", name := "min", desc := "(II)I" } : Jvm.MethodName)) ∈ TW := List.mem_filter.mpr ⟨List.mem_append_right _ (List.mem_of_getElem? (i := 181) (by decide +kernel)), rfl⟩
theorem t_182 : (Jvm.Cond.code ({ cls := "java/lang/Math", name := "min", desc := "(II)I" } : Jvm.MethodName) prog_20_method_69_code (2 : Nat) (Option.some Jvm.ClassFile.FieldType.int)) ∈ TW := List.mem_filter.mpr ⟨List.mem_append_right _ (List.mem_of_getElem? (i := 182) (by decide +kernel)), rfl⟩
theorem t_183 : (Jvm.Cond.methodLink "RangeSheet" (167 : Nat) ({ cls := "RangeSheet", name := "settle", desc := "(LRangeSheet$Box;)Z" } : Jvm.MethodName)) ∈ TW := List.mem_filter.mpr ⟨List.mem_append_right _ (List.mem_of_getElem? (i := 183) (by decide +kernel)), rfl⟩
theorem t_185 : (Jvm.Cond.instanceMethod ({ cls := "RangeSheet", name := "settle", desc := "(LRangeSheet$Box;)Z" } : Jvm.MethodName)) ∈ TW := List.mem_filter.mpr ⟨List.mem_append_right _ (List.mem_of_getElem? (i := 185) (by decide +kernel)), rfl⟩
theorem t_186 : (Jvm.Cond.code ({ cls := "RangeSheet", name := "settle", desc := "(LRangeSheet$Box;)Z" } : Jvm.MethodName) prog_1_method_16_code (4 : Nat) (Option.some Jvm.ClassFile.FieldType.boolean)) ∈ TW := List.mem_filter.mpr ⟨List.mem_append_right _ (List.mem_of_getElem? (i := 186) (by decide +kernel)), rfl⟩
theorem t_187 : (Jvm.Cond.methodLink "RangeSheet" (156 : Nat) ({ cls := "RangeSheet$Relation", name := "narrow", desc := "(LRangeSheet$Box;)Z" } : Jvm.MethodName)) ∈ TW := List.mem_filter.mpr ⟨List.mem_append_right _ (List.mem_of_getElem? (i := 187) (by decide +kernel)), rfl⟩
theorem t_188 : (Jvm.Cond.declares ({ cls := "RangeSheet$Relation", name := "narrow", desc := "(LRangeSheet$Box;)Z" } : Jvm.MethodName)) ∈ TW := List.mem_filter.mpr ⟨List.mem_append_right _ (List.mem_of_getElem? (i := 188) (by decide +kernel)), rfl⟩
theorem t_189 : (Jvm.Cond.sameMethod "RangeSheet$Relation" "RangeSheet$Relation" "narrow" "(LRangeSheet$Box;)Z") ∈ TW := List.mem_filter.mpr ⟨List.mem_append_right _ (List.mem_of_getElem? (i := 189) (by decide +kernel)), rfl⟩
theorem t_190 : (Jvm.Cond.selects "RangeSheet$AtMost" ({ cls := "RangeSheet$Relation", name := "narrow", desc := "(LRangeSheet$Box;)Z" } : Jvm.MethodName) ({ cls := "RangeSheet$AtMost", name := "narrow", desc := "(LRangeSheet$Box;)Z" } : Jvm.MethodName)) ∈ TW := List.mem_filter.mpr ⟨List.mem_append_right _ (List.mem_of_getElem? (i := 190) (by decide +kernel)), rfl⟩
theorem t_191 : (Jvm.Cond.instanceMethod ({ cls := "RangeSheet$AtMost", name := "narrow", desc := "(LRangeSheet$Box;)Z" } : Jvm.MethodName)) ∈ TW := List.mem_filter.mpr ⟨List.mem_append_right _ (List.mem_of_getElem? (i := 191) (by decide +kernel)), rfl⟩
theorem t_192 : (Jvm.Cond.code ({ cls := "RangeSheet$AtMost", name := "narrow", desc := "(LRangeSheet$Box;)Z" } : Jvm.MethodName) prog_2_method_4_code (2 : Nat) (Option.some Jvm.ClassFile.FieldType.boolean)) ∈ TW := List.mem_filter.mpr ⟨List.mem_append_right _ (List.mem_of_getElem? (i := 192) (by decide +kernel)), rfl⟩
theorem t_193 : (Jvm.Cond.methodLink "RangeSheet$AtMost" (34 : Nat) ({ cls := "RangeSheet$Box", name := "cut", desc := "(III)Z" } : Jvm.MethodName)) ∈ TW := List.mem_filter.mpr ⟨List.mem_append_right _ (List.mem_of_getElem? (i := 193) (by decide +kernel)), rfl⟩
theorem t_194 : (Jvm.Cond.selects "RangeSheet$Different" ({ cls := "RangeSheet$Relation", name := "narrow", desc := "(LRangeSheet$Box;)Z" } : Jvm.MethodName) ({ cls := "RangeSheet$Different", name := "narrow", desc := "(LRangeSheet$Box;)Z" } : Jvm.MethodName)) ∈ TW := List.mem_filter.mpr ⟨List.mem_append_right _ (List.mem_of_getElem? (i := 194) (by decide +kernel)), rfl⟩
theorem t_195 : (Jvm.Cond.instanceMethod ({ cls := "RangeSheet$Different", name := "narrow", desc := "(LRangeSheet$Box;)Z" } : Jvm.MethodName)) ∈ TW := List.mem_filter.mpr ⟨List.mem_append_right _ (List.mem_of_getElem? (i := 195) (by decide +kernel)), rfl⟩
theorem t_196 : (Jvm.Cond.code ({ cls := "RangeSheet$Different", name := "narrow", desc := "(LRangeSheet$Box;)Z" } : Jvm.MethodName) prog_4_method_8_code (4 : Nat) (Option.some Jvm.ClassFile.FieldType.boolean)) ∈ TW := List.mem_filter.mpr ⟨List.mem_append_right _ (List.mem_of_getElem? (i := 196) (by decide +kernel)), rfl⟩
theorem t_197 : (Jvm.Cond.methodLink "RangeSheet$Different" (44 : Nat) ({ cls := "RangeSheet$Different", name := "round", desc := "(LRangeSheet$Box;)Z" } : Jvm.MethodName)) ∈ TW := List.mem_filter.mpr ⟨List.mem_append_right _ (List.mem_of_getElem? (i := 197) (by decide +kernel)), rfl⟩
theorem t_199 : (Jvm.Cond.instanceMethod ({ cls := "RangeSheet$Different", name := "round", desc := "(LRangeSheet$Box;)Z" } : Jvm.MethodName)) ∈ TW := List.mem_filter.mpr ⟨List.mem_append_right _ (List.mem_of_getElem? (i := 199) (by decide +kernel)), rfl⟩
theorem t_200 : (Jvm.Cond.instantiable "RangeSheet$Different" (2 : Nat)) ∈ TW := List.mem_filter.mpr ⟨List.mem_append_right _ (List.mem_of_getElem? (i := 200) (by decide +kernel)), rfl⟩
theorem t_201 : (Jvm.Cond.code ({ cls := "RangeSheet$Different", name := "round", desc := "(LRangeSheet$Box;)Z" } : Jvm.MethodName) prog_4_method_7_code (5 : Nat) (Option.some Jvm.ClassFile.FieldType.boolean)) ∈ TW := List.mem_filter.mpr ⟨List.mem_append_right _ (List.mem_of_getElem? (i := 201) (by decide +kernel)), rfl⟩
theorem t_202 : (Jvm.Cond.methodLink "RangeSheet$Different" (15 : Nat) ({ cls := "RangeSheet$Different", name := "has", desc := "(I)Z" } : Jvm.MethodName)) ∈ TW := List.mem_filter.mpr ⟨List.mem_append_right _ (List.mem_of_getElem? (i := 202) (by decide +kernel)), rfl⟩
theorem t_204 : (Jvm.Cond.instanceMethod ({ cls := "RangeSheet$Different", name := "has", desc := "(I)Z" } : Jvm.MethodName)) ∈ TW := List.mem_filter.mpr ⟨List.mem_append_right _ (List.mem_of_getElem? (i := 204) (by decide +kernel)), rfl⟩
theorem t_205 : (Jvm.Cond.code ({ cls := "RangeSheet$Different", name := "has", desc := "(I)Z" } : Jvm.MethodName) prog_4_method_2_code (2 : Nat) (Option.some Jvm.ClassFile.FieldType.boolean)) ∈ TW := List.mem_filter.mpr ⟨List.mem_append_right _ (List.mem_of_getElem? (i := 205) (by decide +kernel)), rfl⟩
theorem t_206 : (Jvm.Cond.methodLink "RangeSheet$Different" (36 : Nat) ({ cls := "RangeSheet$Different", name := "fill", desc := "(LRangeSheet$Box;II)Z" } : Jvm.MethodName)) ∈ TW := List.mem_filter.mpr ⟨List.mem_append_right _ (List.mem_of_getElem? (i := 206) (by decide +kernel)), rfl⟩
theorem t_208 : (Jvm.Cond.instanceMethod ({ cls := "RangeSheet$Different", name := "fill", desc := "(LRangeSheet$Box;II)Z" } : Jvm.MethodName)) ∈ TW := List.mem_filter.mpr ⟨List.mem_append_right _ (List.mem_of_getElem? (i := 208) (by decide +kernel)), rfl⟩
theorem t_209 : (Jvm.Cond.code ({ cls := "RangeSheet$Different", name := "fill", desc := "(LRangeSheet$Box;II)Z" } : Jvm.MethodName) prog_4_method_6_code (7 : Nat) (Option.some Jvm.ClassFile.FieldType.boolean)) ∈ TW := List.mem_filter.mpr ⟨List.mem_append_right _ (List.mem_of_getElem? (i := 209) (by decide +kernel)), rfl⟩
theorem t_210 : (Jvm.Cond.methodLink "RangeSheet$Different" (28 : Nat) ({ cls := "RangeSheet$Different", name := "isWithin", desc := "(LRangeSheet$Box;III)Z" } : Jvm.MethodName)) ∈ TW := List.mem_filter.mpr ⟨List.mem_append_right _ (List.mem_of_getElem? (i := 210) (by decide +kernel)), rfl⟩
theorem t_212 : (Jvm.Cond.instanceMethod ({ cls := "RangeSheet$Different", name := "isWithin", desc := "(LRangeSheet$Box;III)Z" } : Jvm.MethodName)) ∈ TW := List.mem_filter.mpr ⟨List.mem_append_right _ (List.mem_of_getElem? (i := 212) (by decide +kernel)), rfl⟩
theorem t_213 : (Jvm.Cond.code ({ cls := "RangeSheet$Different", name := "isWithin", desc := "(LRangeSheet$Box;III)Z" } : Jvm.MethodName) prog_4_method_5_code (5 : Nat) (Option.some Jvm.ClassFile.FieldType.boolean)) ∈ TW := List.mem_filter.mpr ⟨List.mem_append_right _ (List.mem_of_getElem? (i := 213) (by decide +kernel)), rfl⟩
theorem t_214 : (Jvm.Cond.methodLink "RangeSheet$Different" (32 : Nat) ({ cls := "RangeSheet$Box", name := "cut", desc := "(III)Z" } : Jvm.MethodName)) ∈ TW := List.mem_filter.mpr ⟨List.mem_append_right _ (List.mem_of_getElem? (i := 214) (by decide +kernel)), rfl⟩
theorem t_215 : (Jvm.Cond.selects "RangeSheet$Greater" ({ cls := "RangeSheet$Relation", name := "narrow", desc := "(LRangeSheet$Box;)Z" } : Jvm.MethodName) ({ cls := "RangeSheet$Three", name := "narrow", desc := "(LRangeSheet$Box;)Z" } : Jvm.MethodName)) ∈ TW := List.mem_filter.mpr ⟨List.mem_append_right _ (List.mem_of_getElem? (i := 215) (by decide +kernel)), rfl⟩
theorem t_216 : (Jvm.Cond.instanceMethod ({ cls := "RangeSheet$Three", name := "narrow", desc := "(LRangeSheet$Box;)Z" } : Jvm.MethodName)) ∈ TW := List.mem_filter.mpr ⟨List.mem_append_right _ (List.mem_of_getElem? (i := 216) (by decide +kernel)), rfl⟩
theorem t_217 : (Jvm.Cond.code ({ cls := "RangeSheet$Three", name := "narrow", desc := "(LRangeSheet$Box;)Z" } : Jvm.MethodName) prog_14_method_7_code (7 : Nat) (Option.some Jvm.ClassFile.FieldType.boolean)) ∈ TW := List.mem_filter.mpr ⟨List.mem_append_right _ (List.mem_of_getElem? (i := 217) (by decide +kernel)), rfl⟩
theorem t_218 : (Jvm.Cond.methodLink "RangeSheet$Three" (61 : Nat) ({ cls := "RangeSheet$Three", name := "span", desc := "(IIIIIZ)V" } : Jvm.MethodName)) ∈ TW := List.mem_filter.mpr ⟨List.mem_append_right _ (List.mem_of_getElem? (i := 218) (by decide +kernel)), rfl⟩
theorem t_219 : (Jvm.Cond.declares ({ cls := "RangeSheet$Three", name := "span", desc := "(IIIIIZ)V" } : Jvm.MethodName)) ∈ TW := List.mem_filter.mpr ⟨List.mem_append_right _ (List.mem_of_getElem? (i := 219) (by decide +kernel)), rfl⟩
theorem t_220 : (Jvm.Cond.sameMethod "RangeSheet$Three" "RangeSheet$Three" "span" "(IIIIIZ)V") ∈ TW := List.mem_filter.mpr ⟨List.mem_append_right _ (List.mem_of_getElem? (i := 220) (by decide +kernel)), rfl⟩
theorem t_221 : (Jvm.Cond.selects "RangeSheet$Greater" ({ cls := "RangeSheet$Three", name := "span", desc := "(IIIIIZ)V" } : Jvm.MethodName) ({ cls := "RangeSheet$Greater", name := "span", desc := "(IIIIIZ)V" } : Jvm.MethodName)) ∈ TW := List.mem_filter.mpr ⟨List.mem_append_right _ (List.mem_of_getElem? (i := 221) (by decide +kernel)), rfl⟩
theorem t_222 : (Jvm.Cond.instanceMethod ({ cls := "RangeSheet$Greater", name := "span", desc := "(IIIIIZ)V" } : Jvm.MethodName)) ∈ TW := List.mem_filter.mpr ⟨List.mem_append_right _ (List.mem_of_getElem? (i := 222) (by decide +kernel)), rfl⟩
theorem t_223 : (Jvm.Cond.code ({ cls := "RangeSheet$Greater", name := "span", desc := "(IIIIIZ)V" } : Jvm.MethodName) prog_5_method_3_code (9 : Nat) (Option.none : Option Jvm.ClassFile.FieldType)) ∈ TW := List.mem_filter.mpr ⟨List.mem_append_right _ (List.mem_of_getElem? (i := 223) (by decide +kernel)), rfl⟩
theorem t_224 : (Jvm.Cond.methodLink "RangeSheet$Greater" (7 : Nat) ({ cls := "java/lang/Math", name := "max", desc := "(II)I" } : Jvm.MethodName)) ∈ TW := List.mem_filter.mpr ⟨List.mem_append_right _ (List.mem_of_getElem? (i := 224) (by decide +kernel)), rfl⟩
theorem t_225 : (Jvm.Cond.methodLink "RangeSheet$Greater" (13 : Nat) ({ cls := "RangeSheet$Greater", name := "add", desc := "(IIIII)V" } : Jvm.MethodName)) ∈ TW := List.mem_filter.mpr ⟨List.mem_append_right _ (List.mem_of_getElem? (i := 225) (by decide +kernel)), rfl⟩
theorem t_226 : (Jvm.Cond.sameMethod "RangeSheet$Greater" "RangeSheet$Three" "add" "(IIIII)V") ∈ TW := List.mem_filter.mpr ⟨List.mem_append_right _ (List.mem_of_getElem? (i := 226) (by decide +kernel)), rfl⟩
theorem t_227 : (Jvm.Cond.declares ({ cls := "RangeSheet$Three", name := "add", desc := "(IIIII)V" } : Jvm.MethodName)) ∈ TW := List.mem_filter.mpr ⟨List.mem_append_right _ (List.mem_of_getElem? (i := 227) (by decide +kernel)), rfl⟩
theorem t_228 : (Jvm.Cond.selects "RangeSheet$Greater" ({ cls := "RangeSheet$Greater", name := "add", desc := "(IIIII)V" } : Jvm.MethodName) ({ cls := "RangeSheet$Three", name := "add", desc := "(IIIII)V" } : Jvm.MethodName)) ∈ TW := List.mem_filter.mpr ⟨List.mem_append_right _ (List.mem_of_getElem? (i := 228) (by decide +kernel)), rfl⟩
theorem t_229 : (Jvm.Cond.instanceMethod ({ cls := "RangeSheet$Three", name := "add", desc := "(IIIII)V" } : Jvm.MethodName)) ∈ TW := List.mem_filter.mpr ⟨List.mem_append_right _ (List.mem_of_getElem? (i := 229) (by decide +kernel)), rfl⟩
theorem t_230 : (Jvm.Cond.code ({ cls := "RangeSheet$Three", name := "add", desc := "(IIIII)V" } : Jvm.MethodName) prog_14_method_6_code (6 : Nat) (Option.none : Option Jvm.ClassFile.FieldType)) ∈ TW := List.mem_filter.mpr ⟨List.mem_append_right _ (List.mem_of_getElem? (i := 230) (by decide +kernel)), rfl⟩
theorem t_231 : (Jvm.Cond.methodLink "RangeSheet$Three" (34 : Nat) ({ cls := "java/lang/Math", name := "min", desc := "(II)I" } : Jvm.MethodName)) ∈ TW := List.mem_filter.mpr ⟨List.mem_append_right _ (List.mem_of_getElem? (i := 231) (by decide +kernel)), rfl⟩
theorem t_232 : (Jvm.Cond.methodLink "RangeSheet$Three" (21 : Nat) ({ cls := "java/lang/Math", name := "max", desc := "(II)I" } : Jvm.MethodName)) ∈ TW := List.mem_filter.mpr ⟨List.mem_append_right _ (List.mem_of_getElem? (i := 232) (by decide +kernel)), rfl⟩
theorem t_233 : (Jvm.Cond.methodLink "RangeSheet$Greater" (19 : Nat) ({ cls := "java/lang/Math", name := "min", desc := "(II)I" } : Jvm.MethodName)) ∈ TW := List.mem_filter.mpr ⟨List.mem_append_right _ (List.mem_of_getElem? (i := 233) (by decide +kernel)), rfl⟩
theorem t_234 : (Jvm.Cond.selects "RangeSheet$If" ({ cls := "RangeSheet$Three", name := "span", desc := "(IIIIIZ)V" } : Jvm.MethodName) ({ cls := "RangeSheet$If", name := "span", desc := "(IIIIIZ)V" } : Jvm.MethodName)) ∈ TW := List.mem_filter.mpr ⟨List.mem_append_right _ (List.mem_of_getElem? (i := 234) (by decide +kernel)), rfl⟩
theorem t_235 : (Jvm.Cond.instanceMethod ({ cls := "RangeSheet$If", name := "span", desc := "(IIIIIZ)V" } : Jvm.MethodName)) ∈ TW := List.mem_filter.mpr ⟨List.mem_append_right _ (List.mem_of_getElem? (i := 235) (by decide +kernel)), rfl⟩
theorem t_236 : (Jvm.Cond.code ({ cls := "RangeSheet$If", name := "span", desc := "(IIIIIZ)V" } : Jvm.MethodName) prog_6_method_3_code (7 : Nat) (Option.none : Option Jvm.ClassFile.FieldType)) ∈ TW := List.mem_filter.mpr ⟨List.mem_append_right _ (List.mem_of_getElem? (i := 236) (by decide +kernel)), rfl⟩
theorem t_237 : (Jvm.Cond.methodLink "RangeSheet$If" (7 : Nat) ({ cls := "RangeSheet$If", name := "add", desc := "(IIIII)V" } : Jvm.MethodName)) ∈ TW := List.mem_filter.mpr ⟨List.mem_append_right _ (List.mem_of_getElem? (i := 237) (by decide +kernel)), rfl⟩
theorem t_238 : (Jvm.Cond.sameMethod "RangeSheet$If" "RangeSheet$Three" "add" "(IIIII)V") ∈ TW := List.mem_filter.mpr ⟨List.mem_append_right _ (List.mem_of_getElem? (i := 238) (by decide +kernel)), rfl⟩
theorem t_239 : (Jvm.Cond.selects "RangeSheet$If" ({ cls := "RangeSheet$If", name := "add", desc := "(IIIII)V" } : Jvm.MethodName) ({ cls := "RangeSheet$Three", name := "add", desc := "(IIIII)V" } : Jvm.MethodName)) ∈ TW := List.mem_filter.mpr ⟨List.mem_append_right _ (List.mem_of_getElem? (i := 239) (by decide +kernel)), rfl⟩
theorem t_240 : (Jvm.Cond.methodLink "RangeSheet$If" (13 : Nat) ({ cls := "java/lang/Math", name := "min", desc := "(II)I" } : Jvm.MethodName)) ∈ TW := List.mem_filter.mpr ⟨List.mem_append_right _ (List.mem_of_getElem? (i := 240) (by decide +kernel)), rfl⟩
theorem t_241 : (Jvm.Cond.methodLink "RangeSheet$If" (19 : Nat) ({ cls := "java/lang/Math", name := "max", desc := "(II)I" } : Jvm.MethodName)) ∈ TW := List.mem_filter.mpr ⟨List.mem_append_right _ (List.mem_of_getElem? (i := 241) (by decide +kernel)), rfl⟩
theorem t_242 : (Jvm.Cond.selects "RangeSheet$Lesser" ({ cls := "RangeSheet$Three", name := "span", desc := "(IIIIIZ)V" } : Jvm.MethodName) ({ cls := "RangeSheet$Lesser", name := "span", desc := "(IIIIIZ)V" } : Jvm.MethodName)) ∈ TW := List.mem_filter.mpr ⟨List.mem_append_right _ (List.mem_of_getElem? (i := 242) (by decide +kernel)), rfl⟩
theorem t_243 : (Jvm.Cond.instanceMethod ({ cls := "RangeSheet$Lesser", name := "span", desc := "(IIIIIZ)V" } : Jvm.MethodName)) ∈ TW := List.mem_filter.mpr ⟨List.mem_append_right _ (List.mem_of_getElem? (i := 243) (by decide +kernel)), rfl⟩
theorem t_244 : (Jvm.Cond.code ({ cls := "RangeSheet$Lesser", name := "span", desc := "(IIIIIZ)V" } : Jvm.MethodName) prog_7_method_3_code (9 : Nat) (Option.none : Option Jvm.ClassFile.FieldType)) ∈ TW := List.mem_filter.mpr ⟨List.mem_append_right _ (List.mem_of_getElem? (i := 244) (by decide +kernel)), rfl⟩
theorem t_245 : (Jvm.Cond.methodLink "RangeSheet$Lesser" (7 : Nat) ({ cls := "java/lang/Math", name := "min", desc := "(II)I" } : Jvm.MethodName)) ∈ TW := List.mem_filter.mpr ⟨List.mem_append_right _ (List.mem_of_getElem? (i := 245) (by decide +kernel)), rfl⟩
theorem t_246 : (Jvm.Cond.methodLink "RangeSheet$Lesser" (13 : Nat) ({ cls := "RangeSheet$Lesser", name := "add", desc := "(IIIII)V" } : Jvm.MethodName)) ∈ TW := List.mem_filter.mpr ⟨List.mem_append_right _ (List.mem_of_getElem? (i := 246) (by decide +kernel)), rfl⟩
theorem t_247 : (Jvm.Cond.sameMethod "RangeSheet$Lesser" "RangeSheet$Three" "add" "(IIIII)V") ∈ TW := List.mem_filter.mpr ⟨List.mem_append_right _ (List.mem_of_getElem? (i := 247) (by decide +kernel)), rfl⟩
theorem t_248 : (Jvm.Cond.selects "RangeSheet$Lesser" ({ cls := "RangeSheet$Lesser", name := "add", desc := "(IIIII)V" } : Jvm.MethodName) ({ cls := "RangeSheet$Three", name := "add", desc := "(IIIII)V" } : Jvm.MethodName)) ∈ TW := List.mem_filter.mpr ⟨List.mem_append_right _ (List.mem_of_getElem? (i := 248) (by decide +kernel)), rfl⟩
theorem t_249 : (Jvm.Cond.methodLink "RangeSheet$Lesser" (19 : Nat) ({ cls := "java/lang/Math", name := "max", desc := "(II)I" } : Jvm.MethodName)) ∈ TW := List.mem_filter.mpr ⟨List.mem_append_right _ (List.mem_of_getElem? (i := 249) (by decide +kernel)), rfl⟩
theorem t_250 : (Jvm.Cond.selects "RangeSheet$Product" ({ cls := "RangeSheet$Three", name := "span", desc := "(IIIIIZ)V" } : Jvm.MethodName) ({ cls := "RangeSheet$Product", name := "span", desc := "(IIIIIZ)V" } : Jvm.MethodName)) ∈ TW := List.mem_filter.mpr ⟨List.mem_append_right _ (List.mem_of_getElem? (i := 250) (by decide +kernel)), rfl⟩
theorem t_251 : (Jvm.Cond.instanceMethod ({ cls := "RangeSheet$Product", name := "span", desc := "(IIIIIZ)V" } : Jvm.MethodName)) ∈ TW := List.mem_filter.mpr ⟨List.mem_append_right _ (List.mem_of_getElem? (i := 251) (by decide +kernel)), rfl⟩
theorem t_252 : (Jvm.Cond.code ({ cls := "RangeSheet$Product", name := "span", desc := "(IIIIIZ)V" } : Jvm.MethodName) prog_9_method_3_code (10 : Nat) (Option.none : Option Jvm.ClassFile.FieldType)) ∈ TW := List.mem_filter.mpr ⟨List.mem_append_right _ (List.mem_of_getElem? (i := 252) (by decide +kernel)), rfl⟩
theorem t_253 : (Jvm.Cond.methodLink "RangeSheet$Product" (7 : Nat) ({ cls := "RangeSheet$Product", name := "add", desc := "(IIIII)V" } : Jvm.MethodName)) ∈ TW := List.mem_filter.mpr ⟨List.mem_append_right _ (List.mem_of_getElem? (i := 253) (by decide +kernel)), rfl⟩
theorem t_254 : (Jvm.Cond.sameMethod "RangeSheet$Product" "RangeSheet$Three" "add" "(IIIII)V") ∈ TW := List.mem_filter.mpr ⟨List.mem_append_right _ (List.mem_of_getElem? (i := 254) (by decide +kernel)), rfl⟩
theorem t_255 : (Jvm.Cond.selects "RangeSheet$Product" ({ cls := "RangeSheet$Product", name := "add", desc := "(IIIII)V" } : Jvm.MethodName) ({ cls := "RangeSheet$Three", name := "add", desc := "(IIIII)V" } : Jvm.MethodName)) ∈ TW := List.mem_filter.mpr ⟨List.mem_append_right _ (List.mem_of_getElem? (i := 255) (by decide +kernel)), rfl⟩
theorem t_256 : (Jvm.Cond.methodLinkNest "RangeSheet$Product" (13 : Nat) ({ cls := "RangeSheet", name := "ceiling", desc := "(II)I" } : Jvm.MethodName) "RangeSheet") ∈ TW := List.mem_filter.mpr ⟨List.mem_append_right _ (List.mem_of_getElem? (i := 256) (by decide +kernel)), rfl⟩
theorem t_257 : (Jvm.Cond.static ({ cls := "RangeSheet", name := "ceiling", desc := "(II)I" } : Jvm.MethodName)) ∈ TW := List.mem_filter.mpr ⟨List.mem_append_right _ (List.mem_of_getElem? (i := 257) (by decide +kernel)), rfl⟩
theorem t_258 : (Jvm.Cond.code ({ cls := "RangeSheet", name := "ceiling", desc := "(II)I" } : Jvm.MethodName) prog_1_method_1_code (2 : Nat) (Option.some Jvm.ClassFile.FieldType.int)) ∈ TW := List.mem_filter.mpr ⟨List.mem_append_right _ (List.mem_of_getElem? (i := 258) (by decide +kernel)), rfl⟩
theorem t_259 : (Jvm.Cond.methodLink "RangeSheet" (1 : Nat) ({ cls := "java/lang/Math", name := "floorDiv", desc := "(II)I" } : Jvm.MethodName)) ∈ TW := List.mem_filter.mpr ⟨List.mem_append_right _ (List.mem_of_getElem? (i := 259) (by decide +kernel)), rfl⟩
theorem t_260 : (Jvm.Cond.static ({ cls := "java/lang/Math", name := "floorDiv", desc := "(II)I" } : Jvm.MethodName)) ∈ TW := List.mem_filter.mpr ⟨List.mem_append_right _ (List.mem_of_getElem? (i := 260) (by decide +kernel)), rfl⟩
theorem t_261 : (Jvm.Cond.code ({ cls := "java/lang/Math", name := "floorDiv", desc := "(II)I" } : Jvm.MethodName) prog_20_method_47_code (3 : Nat) (Option.some Jvm.ClassFile.FieldType.int)) ∈ TW := List.mem_filter.mpr ⟨List.mem_append_right _ (List.mem_of_getElem? (i := 261) (by decide +kernel)), rfl⟩
theorem t_262 : (Jvm.Cond.methodLink "RangeSheet$Product" (19 : Nat) ({ cls := "java/lang/Math", name := "max", desc := "(II)I" } : Jvm.MethodName)) ∈ TW := List.mem_filter.mpr ⟨List.mem_append_right _ (List.mem_of_getElem? (i := 262) (by decide +kernel)), rfl⟩
theorem t_263 : (Jvm.Cond.methodLink "RangeSheet$Product" (24 : Nat) ({ cls := "java/lang/Math", name := "floorDiv", desc := "(II)I" } : Jvm.MethodName)) ∈ TW := List.mem_filter.mpr ⟨List.mem_append_right _ (List.mem_of_getElem? (i := 263) (by decide +kernel)), rfl⟩
theorem t_264 : (Jvm.Cond.methodLink "RangeSheet$Product" (27 : Nat) ({ cls := "java/lang/Math", name := "min", desc := "(II)I" } : Jvm.MethodName)) ∈ TW := List.mem_filter.mpr ⟨List.mem_append_right _ (List.mem_of_getElem? (i := 264) (by decide +kernel)), rfl⟩
theorem t_265 : (Jvm.Cond.selects "RangeSheet$Quotient" ({ cls := "RangeSheet$Three", name := "span", desc := "(IIIIIZ)V" } : Jvm.MethodName) ({ cls := "RangeSheet$Quotient", name := "span", desc := "(IIIIIZ)V" } : Jvm.MethodName)) ∈ TW := List.mem_filter.mpr ⟨List.mem_append_right _ (List.mem_of_getElem? (i := 265) (by decide +kernel)), rfl⟩
theorem t_266 : (Jvm.Cond.instanceMethod ({ cls := "RangeSheet$Quotient", name := "span", desc := "(IIIIIZ)V" } : Jvm.MethodName)) ∈ TW := List.mem_filter.mpr ⟨List.mem_append_right _ (List.mem_of_getElem? (i := 266) (by decide +kernel)), rfl⟩
theorem t_267 : (Jvm.Cond.code ({ cls := "RangeSheet$Quotient", name := "span", desc := "(IIIIIZ)V" } : Jvm.MethodName) prog_10_method_3_code (11 : Nat) (Option.none : Option Jvm.ClassFile.FieldType)) ∈ TW := List.mem_filter.mpr ⟨List.mem_append_right _ (List.mem_of_getElem? (i := 267) (by decide +kernel)), rfl⟩
theorem t_268 : (Jvm.Cond.methodLink "RangeSheet$Quotient" (7 : Nat) ({ cls := "java/lang/Math", name := "floorDiv", desc := "(II)I" } : Jvm.MethodName)) ∈ TW := List.mem_filter.mpr ⟨List.mem_append_right _ (List.mem_of_getElem? (i := 268) (by decide +kernel)), rfl⟩
theorem t_269 : (Jvm.Cond.methodLink "RangeSheet$Quotient" (13 : Nat) ({ cls := "RangeSheet$Quotient", name := "add", desc := "(IIIII)V" } : Jvm.MethodName)) ∈ TW := List.mem_filter.mpr ⟨List.mem_append_right _ (List.mem_of_getElem? (i := 269) (by decide +kernel)), rfl⟩
theorem t_270 : (Jvm.Cond.sameMethod "RangeSheet$Quotient" "RangeSheet$Three" "add" "(IIIII)V") ∈ TW := List.mem_filter.mpr ⟨List.mem_append_right _ (List.mem_of_getElem? (i := 270) (by decide +kernel)), rfl⟩
theorem t_271 : (Jvm.Cond.selects "RangeSheet$Quotient" ({ cls := "RangeSheet$Quotient", name := "add", desc := "(IIIII)V" } : Jvm.MethodName) ({ cls := "RangeSheet$Three", name := "add", desc := "(IIIII)V" } : Jvm.MethodName)) ∈ TW := List.mem_filter.mpr ⟨List.mem_append_right _ (List.mem_of_getElem? (i := 271) (by decide +kernel)), rfl⟩
theorem t_272 : (Jvm.Cond.methodLink "RangeSheet$Quotient" (19 : Nat) ({ cls := "java/lang/Math", name := "max", desc := "(II)I" } : Jvm.MethodName)) ∈ TW := List.mem_filter.mpr ⟨List.mem_append_right _ (List.mem_of_getElem? (i := 272) (by decide +kernel)), rfl⟩
theorem t_273 : (Jvm.Cond.methodLink "RangeSheet$Quotient" (22 : Nat) ({ cls := "java/lang/Math", name := "min", desc := "(II)I" } : Jvm.MethodName)) ∈ TW := List.mem_filter.mpr ⟨List.mem_append_right _ (List.mem_of_getElem? (i := 273) (by decide +kernel)), rfl⟩
theorem t_274 : (Jvm.Cond.selects "RangeSheet$Sum" ({ cls := "RangeSheet$Three", name := "span", desc := "(IIIIIZ)V" } : Jvm.MethodName) ({ cls := "RangeSheet$Sum", name := "span", desc := "(IIIIIZ)V" } : Jvm.MethodName)) ∈ TW := List.mem_filter.mpr ⟨List.mem_append_right _ (List.mem_of_getElem? (i := 274) (by decide +kernel)), rfl⟩
theorem t_275 : (Jvm.Cond.instanceMethod ({ cls := "RangeSheet$Sum", name := "span", desc := "(IIIIIZ)V" } : Jvm.MethodName)) ∈ TW := List.mem_filter.mpr ⟨List.mem_append_right _ (List.mem_of_getElem? (i := 275) (by decide +kernel)), rfl⟩
theorem t_276 : (Jvm.Cond.code ({ cls := "RangeSheet$Sum", name := "span", desc := "(IIIIIZ)V" } : Jvm.MethodName) prog_13_method_3_code (9 : Nat) (Option.none : Option Jvm.ClassFile.FieldType)) ∈ TW := List.mem_filter.mpr ⟨List.mem_append_right _ (List.mem_of_getElem? (i := 276) (by decide +kernel)), rfl⟩
theorem t_277 : (Jvm.Cond.methodLink "RangeSheet$Sum" (7 : Nat) ({ cls := "RangeSheet$Sum", name := "add", desc := "(IIIII)V" } : Jvm.MethodName)) ∈ TW := List.mem_filter.mpr ⟨List.mem_append_right _ (List.mem_of_getElem? (i := 277) (by decide +kernel)), rfl⟩
theorem t_278 : (Jvm.Cond.sameMethod "RangeSheet$Sum" "RangeSheet$Three" "add" "(IIIII)V") ∈ TW := List.mem_filter.mpr ⟨List.mem_append_right _ (List.mem_of_getElem? (i := 278) (by decide +kernel)), rfl⟩
theorem t_279 : (Jvm.Cond.selects "RangeSheet$Sum" ({ cls := "RangeSheet$Sum", name := "add", desc := "(IIIII)V" } : Jvm.MethodName) ({ cls := "RangeSheet$Three", name := "add", desc := "(IIIII)V" } : Jvm.MethodName)) ∈ TW := List.mem_filter.mpr ⟨List.mem_append_right _ (List.mem_of_getElem? (i := 279) (by decide +kernel)), rfl⟩
theorem t_280 : (Jvm.Cond.methodLink "RangeSheet$Sum" (13 : Nat) ({ cls := "java/lang/Math", name := "max", desc := "(II)I" } : Jvm.MethodName)) ∈ TW := List.mem_filter.mpr ⟨List.mem_append_right _ (List.mem_of_getElem? (i := 280) (by decide +kernel)), rfl⟩
theorem t_281 : (Jvm.Cond.methodLink "RangeSheet$Sum" (19 : Nat) ({ cls := "java/lang/Math", name := "min", desc := "(II)I" } : Jvm.MethodName)) ∈ TW := List.mem_filter.mpr ⟨List.mem_append_right _ (List.mem_of_getElem? (i := 281) (by decide +kernel)), rfl⟩
theorem t_282 : (Jvm.Cond.methodLink "RangeSheet$Three" (65 : Nat) ({ cls := "RangeSheet$Box", name := "cut", desc := "(III)Z" } : Jvm.MethodName)) ∈ TW := List.mem_filter.mpr ⟨List.mem_append_right _ (List.mem_of_getElem? (i := 282) (by decide +kernel)), rfl⟩
theorem t_283 : (Jvm.Cond.selects "RangeSheet$If" ({ cls := "RangeSheet$Relation", name := "narrow", desc := "(LRangeSheet$Box;)Z" } : Jvm.MethodName) ({ cls := "RangeSheet$Three", name := "narrow", desc := "(LRangeSheet$Box;)Z" } : Jvm.MethodName)) ∈ TW := List.mem_filter.mpr ⟨List.mem_append_right _ (List.mem_of_getElem? (i := 283) (by decide +kernel)), rfl⟩
theorem t_284 : (Jvm.Cond.selects "RangeSheet$Lesser" ({ cls := "RangeSheet$Relation", name := "narrow", desc := "(LRangeSheet$Box;)Z" } : Jvm.MethodName) ({ cls := "RangeSheet$Three", name := "narrow", desc := "(LRangeSheet$Box;)Z" } : Jvm.MethodName)) ∈ TW := List.mem_filter.mpr ⟨List.mem_append_right _ (List.mem_of_getElem? (i := 284) (by decide +kernel)), rfl⟩
theorem t_285 : (Jvm.Cond.selects "RangeSheet$Lookup" ({ cls := "RangeSheet$Relation", name := "narrow", desc := "(LRangeSheet$Box;)Z" } : Jvm.MethodName) ({ cls := "RangeSheet$Lookup", name := "narrow", desc := "(LRangeSheet$Box;)Z" } : Jvm.MethodName)) ∈ TW := List.mem_filter.mpr ⟨List.mem_append_right _ (List.mem_of_getElem? (i := 285) (by decide +kernel)), rfl⟩
theorem t_286 : (Jvm.Cond.instanceMethod ({ cls := "RangeSheet$Lookup", name := "narrow", desc := "(LRangeSheet$Box;)Z" } : Jvm.MethodName)) ∈ TW := List.mem_filter.mpr ⟨List.mem_append_right _ (List.mem_of_getElem? (i := 286) (by decide +kernel)), rfl⟩
theorem t_287 : (Jvm.Cond.code ({ cls := "RangeSheet$Lookup", name := "narrow", desc := "(LRangeSheet$Box;)Z" } : Jvm.MethodName) prog_8_method_5_code (7 : Nat) (Option.some Jvm.ClassFile.FieldType.boolean)) ∈ TW := List.mem_filter.mpr ⟨List.mem_append_right _ (List.mem_of_getElem? (i := 287) (by decide +kernel)), rfl⟩
theorem t_288 : (Jvm.Cond.methodLink "RangeSheet$Lookup" (48 : Nat) ({ cls := "RangeSheet$Lookup", name := "fits", desc := "(LRangeSheet$Box;I)Z" } : Jvm.MethodName)) ∈ TW := List.mem_filter.mpr ⟨List.mem_append_right _ (List.mem_of_getElem? (i := 288) (by decide +kernel)), rfl⟩
theorem t_290 : (Jvm.Cond.instanceMethod ({ cls := "RangeSheet$Lookup", name := "fits", desc := "(LRangeSheet$Box;I)Z" } : Jvm.MethodName)) ∈ TW := List.mem_filter.mpr ⟨List.mem_append_right _ (List.mem_of_getElem? (i := 290) (by decide +kernel)), rfl⟩
theorem t_291 : (Jvm.Cond.instantiable "RangeSheet$Lookup" (4 : Nat)) ∈ TW := List.mem_filter.mpr ⟨List.mem_append_right _ (List.mem_of_getElem? (i := 291) (by decide +kernel)), rfl⟩
theorem t_292 : (Jvm.Cond.code ({ cls := "RangeSheet$Lookup", name := "fits", desc := "(LRangeSheet$Box;I)Z" } : Jvm.MethodName) prog_8_method_4_code (5 : Nat) (Option.some Jvm.ClassFile.FieldType.boolean)) ∈ TW := List.mem_filter.mpr ⟨List.mem_append_right _ (List.mem_of_getElem? (i := 292) (by decide +kernel)), rfl⟩
theorem t_293 : (Jvm.Cond.methodLink "RangeSheet$Lookup" (52 : Nat) ({ cls := "java/lang/Math", name := "min", desc := "(II)I" } : Jvm.MethodName)) ∈ TW := List.mem_filter.mpr ⟨List.mem_append_right _ (List.mem_of_getElem? (i := 293) (by decide +kernel)), rfl⟩
theorem t_294 : (Jvm.Cond.methodLink "RangeSheet$Lookup" (22 : Nat) ({ cls := "java/lang/Math", name := "max", desc := "(II)I" } : Jvm.MethodName)) ∈ TW := List.mem_filter.mpr ⟨List.mem_append_right _ (List.mem_of_getElem? (i := 294) (by decide +kernel)), rfl⟩
theorem t_295 : (Jvm.Cond.methodLink "RangeSheet$Lookup" (55 : Nat) ({ cls := "RangeSheet$Box", name := "cut", desc := "(III)Z" } : Jvm.MethodName)) ∈ TW := List.mem_filter.mpr ⟨List.mem_append_right _ (List.mem_of_getElem? (i := 295) (by decide +kernel)), rfl⟩
theorem t_296 : (Jvm.Cond.selects "RangeSheet$Product" ({ cls := "RangeSheet$Relation", name := "narrow", desc := "(LRangeSheet$Box;)Z" } : Jvm.MethodName) ({ cls := "RangeSheet$Three", name := "narrow", desc := "(LRangeSheet$Box;)Z" } : Jvm.MethodName)) ∈ TW := List.mem_filter.mpr ⟨List.mem_append_right _ (List.mem_of_getElem? (i := 296) (by decide +kernel)), rfl⟩
theorem t_297 : (Jvm.Cond.selects "RangeSheet$Quotient" ({ cls := "RangeSheet$Relation", name := "narrow", desc := "(LRangeSheet$Box;)Z" } : Jvm.MethodName) ({ cls := "RangeSheet$Three", name := "narrow", desc := "(LRangeSheet$Box;)Z" } : Jvm.MethodName)) ∈ TW := List.mem_filter.mpr ⟨List.mem_append_right _ (List.mem_of_getElem? (i := 297) (by decide +kernel)), rfl⟩
theorem t_298 : (Jvm.Cond.selects "RangeSheet$Sum" ({ cls := "RangeSheet$Relation", name := "narrow", desc := "(LRangeSheet$Box;)Z" } : Jvm.MethodName) ({ cls := "RangeSheet$Three", name := "narrow", desc := "(LRangeSheet$Box;)Z" } : Jvm.MethodName)) ∈ TW := List.mem_filter.mpr ⟨List.mem_append_right _ (List.mem_of_getElem? (i := 298) (by decide +kernel)), rfl⟩
theorem t_299 : (Jvm.Cond.methodLink "RangeSheetLaw" (79 : Nat) ({ cls := "RangeSheet", name := "low", desc := "(I)I" } : Jvm.MethodName)) ∈ TW := List.mem_filter.mpr ⟨List.mem_append_right _ (List.mem_of_getElem? (i := 299) (by decide +kernel)), rfl⟩
theorem t_300 : (Jvm.Cond.instanceMethod ({ cls := "RangeSheet", name := "low", desc := "(I)I" } : Jvm.MethodName)) ∈ TW := List.mem_filter.mpr ⟨List.mem_append_right _ (List.mem_of_getElem? (i := 300) (by decide +kernel)), rfl⟩
theorem t_301 : (Jvm.Cond.selects "RangeSheet" ({ cls := "RangeSheet", name := "low", desc := "(I)I" } : Jvm.MethodName) ({ cls := "RangeSheet", name := "low", desc := "(I)I" } : Jvm.MethodName)) ∈ TW := List.mem_filter.mpr ⟨List.mem_append_right _ (List.mem_of_getElem? (i := 301) (by decide +kernel)), rfl⟩
theorem t_302 : (Jvm.Cond.code ({ cls := "RangeSheet", name := "low", desc := "(I)I" } : Jvm.MethodName) prog_1_method_19_code (2 : Nat) (Option.some Jvm.ClassFile.FieldType.int)) ∈ TW := List.mem_filter.mpr ⟨List.mem_append_right _ (List.mem_of_getElem? (i := 302) (by decide +kernel)), rfl⟩
theorem t_303 : (Jvm.Cond.methodLink "RangeSheetLaw" (83 : Nat) ({ cls := "RangeSheet", name := "high", desc := "(I)I" } : Jvm.MethodName)) ∈ TW := List.mem_filter.mpr ⟨List.mem_append_right _ (List.mem_of_getElem? (i := 303) (by decide +kernel)), rfl⟩
theorem t_304 : (Jvm.Cond.instanceMethod ({ cls := "RangeSheet", name := "high", desc := "(I)I" } : Jvm.MethodName)) ∈ TW := List.mem_filter.mpr ⟨List.mem_append_right _ (List.mem_of_getElem? (i := 304) (by decide +kernel)), rfl⟩
theorem t_305 : (Jvm.Cond.selects "RangeSheet" ({ cls := "RangeSheet", name := "high", desc := "(I)I" } : Jvm.MethodName) ({ cls := "RangeSheet", name := "high", desc := "(I)I" } : Jvm.MethodName)) ∈ TW := List.mem_filter.mpr ⟨List.mem_append_right _ (List.mem_of_getElem? (i := 305) (by decide +kernel)), rfl⟩
theorem t_306 : (Jvm.Cond.code ({ cls := "RangeSheet", name := "high", desc := "(I)I" } : Jvm.MethodName) prog_1_method_20_code (2 : Nat) (Option.some Jvm.ClassFile.FieldType.int)) ∈ TW := List.mem_filter.mpr ⟨List.mem_append_right _ (List.mem_of_getElem? (i := 306) (by decide +kernel)), rfl⟩
theorem t_307 : (Jvm.Cond.methodLink "RangeSheetLaw" (87 : Nat) ({ cls := "RangeSheet", name := "conflict", desc := "()I" } : Jvm.MethodName)) ∈ TW := List.mem_filter.mpr ⟨List.mem_append_right _ (List.mem_of_getElem? (i := 307) (by decide +kernel)), rfl⟩
theorem t_308 : (Jvm.Cond.instanceMethod ({ cls := "RangeSheet", name := "conflict", desc := "()I" } : Jvm.MethodName)) ∈ TW := List.mem_filter.mpr ⟨List.mem_append_right _ (List.mem_of_getElem? (i := 308) (by decide +kernel)), rfl⟩
theorem t_309 : (Jvm.Cond.selects "RangeSheet" ({ cls := "RangeSheet", name := "conflict", desc := "()I" } : Jvm.MethodName) ({ cls := "RangeSheet", name := "conflict", desc := "()I" } : Jvm.MethodName)) ∈ TW := List.mem_filter.mpr ⟨List.mem_append_right _ (List.mem_of_getElem? (i := 309) (by decide +kernel)), rfl⟩
theorem t_310 : (Jvm.Cond.code ({ cls := "RangeSheet", name := "conflict", desc := "()I" } : Jvm.MethodName) prog_1_method_21_code (3 : Nat) (Option.some Jvm.ClassFile.FieldType.int)) ∈ TW := List.mem_filter.mpr ⟨List.mem_append_right _ (List.mem_of_getElem? (i := 310) (by decide +kernel)), rfl⟩
theorem t_311 : (Jvm.Cond.methodLink "RangeSheetLaw" (105 : Nat) ({ cls := "RangeSheet", name := "steps", desc := "()I" } : Jvm.MethodName)) ∈ TW := List.mem_filter.mpr ⟨List.mem_append_right _ (List.mem_of_getElem? (i := 311) (by decide +kernel)), rfl⟩
theorem t_312 : (Jvm.Cond.instanceMethod ({ cls := "RangeSheet", name := "steps", desc := "()I" } : Jvm.MethodName)) ∈ TW := List.mem_filter.mpr ⟨List.mem_append_right _ (List.mem_of_getElem? (i := 312) (by decide +kernel)), rfl⟩
theorem t_313 : (Jvm.Cond.selects "RangeSheet" ({ cls := "RangeSheet", name := "steps", desc := "()I" } : Jvm.MethodName) ({ cls := "RangeSheet", name := "steps", desc := "()I" } : Jvm.MethodName)) ∈ TW := List.mem_filter.mpr ⟨List.mem_append_right _ (List.mem_of_getElem? (i := 313) (by decide +kernel)), rfl⟩
theorem t_314 : (Jvm.Cond.code ({ cls := "RangeSheet", name := "steps", desc := "()I" } : Jvm.MethodName) prog_1_method_31_code (1 : Nat) (Option.some Jvm.ClassFile.FieldType.int)) ∈ TW := List.mem_filter.mpr ⟨List.mem_append_right _ (List.mem_of_getElem? (i := 314) (by decide +kernel)), rfl⟩
theorem t_315 : (Jvm.Cond.methodLink "RangeSheetLaw" (109 : Nat) ({ cls := "RangeSheet", name := "value", desc := "(I)I" } : Jvm.MethodName)) ∈ TW := List.mem_filter.mpr ⟨List.mem_append_right _ (List.mem_of_getElem? (i := 315) (by decide +kernel)), rfl⟩
theorem t_316 : (Jvm.Cond.instanceMethod ({ cls := "RangeSheet", name := "value", desc := "(I)I" } : Jvm.MethodName)) ∈ TW := List.mem_filter.mpr ⟨List.mem_append_right _ (List.mem_of_getElem? (i := 316) (by decide +kernel)), rfl⟩
theorem t_317 : (Jvm.Cond.selects "RangeSheet" ({ cls := "RangeSheet", name := "value", desc := "(I)I" } : Jvm.MethodName) ({ cls := "RangeSheet", name := "value", desc := "(I)I" } : Jvm.MethodName)) ∈ TW := List.mem_filter.mpr ⟨List.mem_append_right _ (List.mem_of_getElem? (i := 317) (by decide +kernel)), rfl⟩
theorem t_318 : (Jvm.Cond.code ({ cls := "RangeSheet", name := "value", desc := "(I)I" } : Jvm.MethodName) prog_1_method_32_code (2 : Nat) (Option.some Jvm.ClassFile.FieldType.int)) ∈ TW := List.mem_filter.mpr ⟨List.mem_append_right _ (List.mem_of_getElem? (i := 318) (by decide +kernel)), rfl⟩
theorem t_319 : (Jvm.Cond.methodLink "RangeSheetLaw" (113 : Nat) ({ cls := "RangeSheet", name := "satisfied", desc := "(I)Z" } : Jvm.MethodName)) ∈ TW := List.mem_filter.mpr ⟨List.mem_append_right _ (List.mem_of_getElem? (i := 319) (by decide +kernel)), rfl⟩
theorem t_320 : (Jvm.Cond.instanceMethod ({ cls := "RangeSheet", name := "satisfied", desc := "(I)Z" } : Jvm.MethodName)) ∈ TW := List.mem_filter.mpr ⟨List.mem_append_right _ (List.mem_of_getElem? (i := 320) (by decide +kernel)), rfl⟩
theorem t_321 : (Jvm.Cond.selects "RangeSheet" ({ cls := "RangeSheet", name := "satisfied", desc := "(I)Z" } : Jvm.MethodName) ({ cls := "RangeSheet", name := "satisfied", desc := "(I)Z" } : Jvm.MethodName)) ∈ TW := List.mem_filter.mpr ⟨List.mem_append_right _ (List.mem_of_getElem? (i := 321) (by decide +kernel)), rfl⟩
theorem t_322 : (Jvm.Cond.code ({ cls := "RangeSheet", name := "satisfied", desc := "(I)Z" } : Jvm.MethodName) prog_1_method_33_code (2 : Nat) (Option.some Jvm.ClassFile.FieldType.boolean)) ∈ TW := List.mem_filter.mpr ⟨List.mem_append_right _ (List.mem_of_getElem? (i := 322) (by decide +kernel)), rfl⟩
theorem t_323 : (Jvm.Cond.methodLink "RangeSheet" (219 : Nat) ({ cls := "RangeSheet$Relation", name := "last", desc := "()I" } : Jvm.MethodName)) ∈ TW := List.mem_filter.mpr ⟨List.mem_append_right _ (List.mem_of_getElem? (i := 323) (by decide +kernel)), rfl⟩
theorem t_324 : (Jvm.Cond.declares ({ cls := "RangeSheet$Relation", name := "last", desc := "()I" } : Jvm.MethodName)) ∈ TW := List.mem_filter.mpr ⟨List.mem_append_right _ (List.mem_of_getElem? (i := 324) (by decide +kernel)), rfl⟩
theorem t_325 : (Jvm.Cond.sameMethod "RangeSheet$Relation" "RangeSheet$Relation" "last" "()I") ∈ TW := List.mem_filter.mpr ⟨List.mem_append_right _ (List.mem_of_getElem? (i := 325) (by decide +kernel)), rfl⟩
theorem t_326 : (Jvm.Cond.selects "RangeSheet$AtMost" ({ cls := "RangeSheet$Relation", name := "last", desc := "()I" } : Jvm.MethodName) ({ cls := "RangeSheet$AtMost", name := "last", desc := "()I" } : Jvm.MethodName)) ∈ TW := List.mem_filter.mpr ⟨List.mem_append_right _ (List.mem_of_getElem? (i := 326) (by decide +kernel)), rfl⟩
theorem t_327 : (Jvm.Cond.instanceMethod ({ cls := "RangeSheet$AtMost", name := "last", desc := "()I" } : Jvm.MethodName)) ∈ TW := List.mem_filter.mpr ⟨List.mem_append_right _ (List.mem_of_getElem? (i := 327) (by decide +kernel)), rfl⟩
theorem t_328 : (Jvm.Cond.code ({ cls := "RangeSheet$AtMost", name := "last", desc := "()I" } : Jvm.MethodName) prog_2_method_2_code (1 : Nat) (Option.some Jvm.ClassFile.FieldType.int)) ∈ TW := List.mem_filter.mpr ⟨List.mem_append_right _ (List.mem_of_getElem? (i := 328) (by decide +kernel)), rfl⟩
theorem t_329 : (Jvm.Cond.methodLink "RangeSheet$AtMost" (19 : Nat) ({ cls := "java/lang/Math", name := "max", desc := "(II)I" } : Jvm.MethodName)) ∈ TW := List.mem_filter.mpr ⟨List.mem_append_right _ (List.mem_of_getElem? (i := 329) (by decide +kernel)), rfl⟩
theorem t_330 : (Jvm.Cond.selects "RangeSheet$Different" ({ cls := "RangeSheet$Relation", name := "last", desc := "()I" } : Jvm.MethodName) ({ cls := "RangeSheet$Different", name := "last", desc := "()I" } : Jvm.MethodName)) ∈ TW := List.mem_filter.mpr ⟨List.mem_append_right _ (List.mem_of_getElem? (i := 330) (by decide +kernel)), rfl⟩
theorem t_331 : (Jvm.Cond.instanceMethod ({ cls := "RangeSheet$Different", name := "last", desc := "()I" } : Jvm.MethodName)) ∈ TW := List.mem_filter.mpr ⟨List.mem_append_right _ (List.mem_of_getElem? (i := 331) (by decide +kernel)), rfl⟩
theorem t_332 : (Jvm.Cond.code ({ cls := "RangeSheet$Different", name := "last", desc := "()I" } : Jvm.MethodName) prog_4_method_3_code (2 : Nat) (Option.some Jvm.ClassFile.FieldType.int)) ∈ TW := List.mem_filter.mpr ⟨List.mem_append_right _ (List.mem_of_getElem? (i := 332) (by decide +kernel)), rfl⟩
theorem t_333 : (Jvm.Cond.selects "RangeSheet$Greater" ({ cls := "RangeSheet$Relation", name := "last", desc := "()I" } : Jvm.MethodName) ({ cls := "RangeSheet$Three", name := "last", desc := "()I" } : Jvm.MethodName)) ∈ TW := List.mem_filter.mpr ⟨List.mem_append_right _ (List.mem_of_getElem? (i := 333) (by decide +kernel)), rfl⟩
theorem t_334 : (Jvm.Cond.instanceMethod ({ cls := "RangeSheet$Three", name := "last", desc := "()I" } : Jvm.MethodName)) ∈ TW := List.mem_filter.mpr ⟨List.mem_append_right _ (List.mem_of_getElem? (i := 334) (by decide +kernel)), rfl⟩
theorem t_335 : (Jvm.Cond.code ({ cls := "RangeSheet$Three", name := "last", desc := "()I" } : Jvm.MethodName) prog_14_method_2_code (1 : Nat) (Option.some Jvm.ClassFile.FieldType.int)) ∈ TW := List.mem_filter.mpr ⟨List.mem_append_right _ (List.mem_of_getElem? (i := 335) (by decide +kernel)), rfl⟩
theorem t_336 : (Jvm.Cond.selects "RangeSheet$If" ({ cls := "RangeSheet$Relation", name := "last", desc := "()I" } : Jvm.MethodName) ({ cls := "RangeSheet$Three", name := "last", desc := "()I" } : Jvm.MethodName)) ∈ TW := List.mem_filter.mpr ⟨List.mem_append_right _ (List.mem_of_getElem? (i := 336) (by decide +kernel)), rfl⟩
theorem t_337 : (Jvm.Cond.selects "RangeSheet$Lesser" ({ cls := "RangeSheet$Relation", name := "last", desc := "()I" } : Jvm.MethodName) ({ cls := "RangeSheet$Three", name := "last", desc := "()I" } : Jvm.MethodName)) ∈ TW := List.mem_filter.mpr ⟨List.mem_append_right _ (List.mem_of_getElem? (i := 337) (by decide +kernel)), rfl⟩
theorem t_338 : (Jvm.Cond.selects "RangeSheet$Lookup" ({ cls := "RangeSheet$Relation", name := "last", desc := "()I" } : Jvm.MethodName) ({ cls := "RangeSheet$Lookup", name := "last", desc := "()I" } : Jvm.MethodName)) ∈ TW := List.mem_filter.mpr ⟨List.mem_append_right _ (List.mem_of_getElem? (i := 338) (by decide +kernel)), rfl⟩
theorem t_339 : (Jvm.Cond.instanceMethod ({ cls := "RangeSheet$Lookup", name := "last", desc := "()I" } : Jvm.MethodName)) ∈ TW := List.mem_filter.mpr ⟨List.mem_append_right _ (List.mem_of_getElem? (i := 339) (by decide +kernel)), rfl⟩
theorem t_340 : (Jvm.Cond.code ({ cls := "RangeSheet$Lookup", name := "last", desc := "()I" } : Jvm.MethodName) prog_8_method_2_code (1 : Nat) (Option.some Jvm.ClassFile.FieldType.int)) ∈ TW := List.mem_filter.mpr ⟨List.mem_append_right _ (List.mem_of_getElem? (i := 340) (by decide +kernel)), rfl⟩
theorem t_341 : (Jvm.Cond.selects "RangeSheet$Product" ({ cls := "RangeSheet$Relation", name := "last", desc := "()I" } : Jvm.MethodName) ({ cls := "RangeSheet$Three", name := "last", desc := "()I" } : Jvm.MethodName)) ∈ TW := List.mem_filter.mpr ⟨List.mem_append_right _ (List.mem_of_getElem? (i := 341) (by decide +kernel)), rfl⟩
theorem t_342 : (Jvm.Cond.selects "RangeSheet$Quotient" ({ cls := "RangeSheet$Relation", name := "last", desc := "()I" } : Jvm.MethodName) ({ cls := "RangeSheet$Three", name := "last", desc := "()I" } : Jvm.MethodName)) ∈ TW := List.mem_filter.mpr ⟨List.mem_append_right _ (List.mem_of_getElem? (i := 342) (by decide +kernel)), rfl⟩
theorem t_343 : (Jvm.Cond.selects "RangeSheet$Sum" ({ cls := "RangeSheet$Relation", name := "last", desc := "()I" } : Jvm.MethodName) ({ cls := "RangeSheet$Three", name := "last", desc := "()I" } : Jvm.MethodName)) ∈ TW := List.mem_filter.mpr ⟨List.mem_append_right _ (List.mem_of_getElem? (i := 343) (by decide +kernel)), rfl⟩
theorem t_344 : (Jvm.Cond.methodLink "RangeSheet" (223 : Nat) ({ cls := "RangeSheet$Relation", name := "accepts", desc := "([I)Z" } : Jvm.MethodName)) ∈ TW := List.mem_filter.mpr ⟨List.mem_append_right _ (List.mem_of_getElem? (i := 344) (by decide +kernel)), rfl⟩
theorem t_345 : (Jvm.Cond.declares ({ cls := "RangeSheet$Relation", name := "accepts", desc := "([I)Z" } : Jvm.MethodName)) ∈ TW := List.mem_filter.mpr ⟨List.mem_append_right _ (List.mem_of_getElem? (i := 345) (by decide +kernel)), rfl⟩
theorem t_346 : (Jvm.Cond.sameMethod "RangeSheet$Relation" "RangeSheet$Relation" "accepts" "([I)Z") ∈ TW := List.mem_filter.mpr ⟨List.mem_append_right _ (List.mem_of_getElem? (i := 346) (by decide +kernel)), rfl⟩
theorem t_347 : (Jvm.Cond.selects "RangeSheet$AtMost" ({ cls := "RangeSheet$Relation", name := "accepts", desc := "([I)Z" } : Jvm.MethodName) ({ cls := "RangeSheet$AtMost", name := "accepts", desc := "([I)Z" } : Jvm.MethodName)) ∈ TW := List.mem_filter.mpr ⟨List.mem_append_right _ (List.mem_of_getElem? (i := 347) (by decide +kernel)), rfl⟩
theorem t_348 : (Jvm.Cond.instanceMethod ({ cls := "RangeSheet$AtMost", name := "accepts", desc := "([I)Z" } : Jvm.MethodName)) ∈ TW := List.mem_filter.mpr ⟨List.mem_append_right _ (List.mem_of_getElem? (i := 348) (by decide +kernel)), rfl⟩
theorem t_349 : (Jvm.Cond.code ({ cls := "RangeSheet$AtMost", name := "accepts", desc := "([I)Z" } : Jvm.MethodName) prog_2_method_3_code (2 : Nat) (Option.some Jvm.ClassFile.FieldType.boolean)) ∈ TW := List.mem_filter.mpr ⟨List.mem_append_right _ (List.mem_of_getElem? (i := 349) (by decide +kernel)), rfl⟩
theorem t_350 : (Jvm.Cond.selects "RangeSheet$Different" ({ cls := "RangeSheet$Relation", name := "accepts", desc := "([I)Z" } : Jvm.MethodName) ({ cls := "RangeSheet$Different", name := "accepts", desc := "([I)Z" } : Jvm.MethodName)) ∈ TW := List.mem_filter.mpr ⟨List.mem_append_right _ (List.mem_of_getElem? (i := 350) (by decide +kernel)), rfl⟩
theorem t_351 : (Jvm.Cond.instanceMethod ({ cls := "RangeSheet$Different", name := "accepts", desc := "([I)Z" } : Jvm.MethodName)) ∈ TW := List.mem_filter.mpr ⟨List.mem_append_right _ (List.mem_of_getElem? (i := 351) (by decide +kernel)), rfl⟩
theorem t_352 : (Jvm.Cond.code ({ cls := "RangeSheet$Different", name := "accepts", desc := "([I)Z" } : Jvm.MethodName) prog_4_method_4_code (5 : Nat) (Option.some Jvm.ClassFile.FieldType.boolean)) ∈ TW := List.mem_filter.mpr ⟨List.mem_append_right _ (List.mem_of_getElem? (i := 352) (by decide +kernel)), rfl⟩
theorem t_353 : (Jvm.Cond.selects "RangeSheet$Greater" ({ cls := "RangeSheet$Relation", name := "accepts", desc := "([I)Z" } : Jvm.MethodName) ({ cls := "RangeSheet$Three", name := "accepts", desc := "([I)Z" } : Jvm.MethodName)) ∈ TW := List.mem_filter.mpr ⟨List.mem_append_right _ (List.mem_of_getElem? (i := 353) (by decide +kernel)), rfl⟩
theorem t_354 : (Jvm.Cond.instanceMethod ({ cls := "RangeSheet$Three", name := "accepts", desc := "([I)Z" } : Jvm.MethodName)) ∈ TW := List.mem_filter.mpr ⟨List.mem_append_right _ (List.mem_of_getElem? (i := 354) (by decide +kernel)), rfl⟩
theorem t_355 : (Jvm.Cond.code ({ cls := "RangeSheet$Three", name := "accepts", desc := "([I)Z" } : Jvm.MethodName) prog_14_method_3_code (2 : Nat) (Option.some Jvm.ClassFile.FieldType.boolean)) ∈ TW := List.mem_filter.mpr ⟨List.mem_append_right _ (List.mem_of_getElem? (i := 355) (by decide +kernel)), rfl⟩
theorem t_356 : (Jvm.Cond.methodLink "RangeSheet$Three" (27 : Nat) ({ cls := "RangeSheet$Three", name := "holds", desc := "(III)Z" } : Jvm.MethodName)) ∈ TW := List.mem_filter.mpr ⟨List.mem_append_right _ (List.mem_of_getElem? (i := 356) (by decide +kernel)), rfl⟩
theorem t_357 : (Jvm.Cond.declares ({ cls := "RangeSheet$Three", name := "holds", desc := "(III)Z" } : Jvm.MethodName)) ∈ TW := List.mem_filter.mpr ⟨List.mem_append_right _ (List.mem_of_getElem? (i := 357) (by decide +kernel)), rfl⟩
theorem t_358 : (Jvm.Cond.sameMethod "RangeSheet$Three" "RangeSheet$Three" "holds" "(III)Z") ∈ TW := List.mem_filter.mpr ⟨List.mem_append_right _ (List.mem_of_getElem? (i := 358) (by decide +kernel)), rfl⟩
theorem t_359 : (Jvm.Cond.selects "RangeSheet$Greater" ({ cls := "RangeSheet$Three", name := "holds", desc := "(III)Z" } : Jvm.MethodName) ({ cls := "RangeSheet$Greater", name := "holds", desc := "(III)Z" } : Jvm.MethodName)) ∈ TW := List.mem_filter.mpr ⟨List.mem_append_right _ (List.mem_of_getElem? (i := 359) (by decide +kernel)), rfl⟩
theorem t_360 : (Jvm.Cond.instanceMethod ({ cls := "RangeSheet$Greater", name := "holds", desc := "(III)Z" } : Jvm.MethodName)) ∈ TW := List.mem_filter.mpr ⟨List.mem_append_right _ (List.mem_of_getElem? (i := 360) (by decide +kernel)), rfl⟩
theorem t_361 : (Jvm.Cond.code ({ cls := "RangeSheet$Greater", name := "holds", desc := "(III)Z" } : Jvm.MethodName) prog_5_method_2_code (4 : Nat) (Option.some Jvm.ClassFile.FieldType.boolean)) ∈ TW := List.mem_filter.mpr ⟨List.mem_append_right _ (List.mem_of_getElem? (i := 361) (by decide +kernel)), rfl⟩
theorem t_362 : (Jvm.Cond.selects "RangeSheet$If" ({ cls := "RangeSheet$Three", name := "holds", desc := "(III)Z" } : Jvm.MethodName) ({ cls := "RangeSheet$If", name := "holds", desc := "(III)Z" } : Jvm.MethodName)) ∈ TW := List.mem_filter.mpr ⟨List.mem_append_right _ (List.mem_of_getElem? (i := 362) (by decide +kernel)), rfl⟩
theorem t_363 : (Jvm.Cond.instanceMethod ({ cls := "RangeSheet$If", name := "holds", desc := "(III)Z" } : Jvm.MethodName)) ∈ TW := List.mem_filter.mpr ⟨List.mem_append_right _ (List.mem_of_getElem? (i := 363) (by decide +kernel)), rfl⟩
theorem t_364 : (Jvm.Cond.code ({ cls := "RangeSheet$If", name := "holds", desc := "(III)Z" } : Jvm.MethodName) prog_6_method_2_code (4 : Nat) (Option.some Jvm.ClassFile.FieldType.boolean)) ∈ TW := List.mem_filter.mpr ⟨List.mem_append_right _ (List.mem_of_getElem? (i := 364) (by decide +kernel)), rfl⟩
theorem t_365 : (Jvm.Cond.selects "RangeSheet$Lesser" ({ cls := "RangeSheet$Three", name := "holds", desc := "(III)Z" } : Jvm.MethodName) ({ cls := "RangeSheet$Lesser", name := "holds", desc := "(III)Z" } : Jvm.MethodName)) ∈ TW := List.mem_filter.mpr ⟨List.mem_append_right _ (List.mem_of_getElem? (i := 365) (by decide +kernel)), rfl⟩
theorem t_366 : (Jvm.Cond.instanceMethod ({ cls := "RangeSheet$Lesser", name := "holds", desc := "(III)Z" } : Jvm.MethodName)) ∈ TW := List.mem_filter.mpr ⟨List.mem_append_right _ (List.mem_of_getElem? (i := 366) (by decide +kernel)), rfl⟩
theorem t_367 : (Jvm.Cond.code ({ cls := "RangeSheet$Lesser", name := "holds", desc := "(III)Z" } : Jvm.MethodName) prog_7_method_2_code (4 : Nat) (Option.some Jvm.ClassFile.FieldType.boolean)) ∈ TW := List.mem_filter.mpr ⟨List.mem_append_right _ (List.mem_of_getElem? (i := 367) (by decide +kernel)), rfl⟩
theorem t_368 : (Jvm.Cond.selects "RangeSheet$Product" ({ cls := "RangeSheet$Three", name := "holds", desc := "(III)Z" } : Jvm.MethodName) ({ cls := "RangeSheet$Product", name := "holds", desc := "(III)Z" } : Jvm.MethodName)) ∈ TW := List.mem_filter.mpr ⟨List.mem_append_right _ (List.mem_of_getElem? (i := 368) (by decide +kernel)), rfl⟩
theorem t_369 : (Jvm.Cond.instanceMethod ({ cls := "RangeSheet$Product", name := "holds", desc := "(III)Z" } : Jvm.MethodName)) ∈ TW := List.mem_filter.mpr ⟨List.mem_append_right _ (List.mem_of_getElem? (i := 369) (by decide +kernel)), rfl⟩
theorem t_370 : (Jvm.Cond.code ({ cls := "RangeSheet$Product", name := "holds", desc := "(III)Z" } : Jvm.MethodName) prog_9_method_2_code (4 : Nat) (Option.some Jvm.ClassFile.FieldType.boolean)) ∈ TW := List.mem_filter.mpr ⟨List.mem_append_right _ (List.mem_of_getElem? (i := 370) (by decide +kernel)), rfl⟩
theorem t_371 : (Jvm.Cond.selects "RangeSheet$Quotient" ({ cls := "RangeSheet$Three", name := "holds", desc := "(III)Z" } : Jvm.MethodName) ({ cls := "RangeSheet$Quotient", name := "holds", desc := "(III)Z" } : Jvm.MethodName)) ∈ TW := List.mem_filter.mpr ⟨List.mem_append_right _ (List.mem_of_getElem? (i := 371) (by decide +kernel)), rfl⟩
theorem t_372 : (Jvm.Cond.instanceMethod ({ cls := "RangeSheet$Quotient", name := "holds", desc := "(III)Z" } : Jvm.MethodName)) ∈ TW := List.mem_filter.mpr ⟨List.mem_append_right _ (List.mem_of_getElem? (i := 372) (by decide +kernel)), rfl⟩
theorem t_373 : (Jvm.Cond.code ({ cls := "RangeSheet$Quotient", name := "holds", desc := "(III)Z" } : Jvm.MethodName) prog_10_method_2_code (4 : Nat) (Option.some Jvm.ClassFile.FieldType.boolean)) ∈ TW := List.mem_filter.mpr ⟨List.mem_append_right _ (List.mem_of_getElem? (i := 373) (by decide +kernel)), rfl⟩
theorem t_374 : (Jvm.Cond.selects "RangeSheet$Sum" ({ cls := "RangeSheet$Three", name := "holds", desc := "(III)Z" } : Jvm.MethodName) ({ cls := "RangeSheet$Sum", name := "holds", desc := "(III)Z" } : Jvm.MethodName)) ∈ TW := List.mem_filter.mpr ⟨List.mem_append_right _ (List.mem_of_getElem? (i := 374) (by decide +kernel)), rfl⟩
theorem t_375 : (Jvm.Cond.instanceMethod ({ cls := "RangeSheet$Sum", name := "holds", desc := "(III)Z" } : Jvm.MethodName)) ∈ TW := List.mem_filter.mpr ⟨List.mem_append_right _ (List.mem_of_getElem? (i := 375) (by decide +kernel)), rfl⟩
theorem t_376 : (Jvm.Cond.code ({ cls := "RangeSheet$Sum", name := "holds", desc := "(III)Z" } : Jvm.MethodName) prog_13_method_2_code (4 : Nat) (Option.some Jvm.ClassFile.FieldType.boolean)) ∈ TW := List.mem_filter.mpr ⟨List.mem_append_right _ (List.mem_of_getElem? (i := 376) (by decide +kernel)), rfl⟩
theorem t_377 : (Jvm.Cond.selects "RangeSheet$If" ({ cls := "RangeSheet$Relation", name := "accepts", desc := "([I)Z" } : Jvm.MethodName) ({ cls := "RangeSheet$Three", name := "accepts", desc := "([I)Z" } : Jvm.MethodName)) ∈ TW := List.mem_filter.mpr ⟨List.mem_append_right _ (List.mem_of_getElem? (i := 377) (by decide +kernel)), rfl⟩
theorem t_378 : (Jvm.Cond.selects "RangeSheet$Lesser" ({ cls := "RangeSheet$Relation", name := "accepts", desc := "([I)Z" } : Jvm.MethodName) ({ cls := "RangeSheet$Three", name := "accepts", desc := "([I)Z" } : Jvm.MethodName)) ∈ TW := List.mem_filter.mpr ⟨List.mem_append_right _ (List.mem_of_getElem? (i := 378) (by decide +kernel)), rfl⟩
theorem t_379 : (Jvm.Cond.selects "RangeSheet$Lookup" ({ cls := "RangeSheet$Relation", name := "accepts", desc := "([I)Z" } : Jvm.MethodName) ({ cls := "RangeSheet$Lookup", name := "accepts", desc := "([I)Z" } : Jvm.MethodName)) ∈ TW := List.mem_filter.mpr ⟨List.mem_append_right _ (List.mem_of_getElem? (i := 379) (by decide +kernel)), rfl⟩
theorem t_380 : (Jvm.Cond.instanceMethod ({ cls := "RangeSheet$Lookup", name := "accepts", desc := "([I)Z" } : Jvm.MethodName)) ∈ TW := List.mem_filter.mpr ⟨List.mem_append_right _ (List.mem_of_getElem? (i := 380) (by decide +kernel)), rfl⟩
theorem t_381 : (Jvm.Cond.code ({ cls := "RangeSheet$Lookup", name := "accepts", desc := "([I)Z" } : Jvm.MethodName) prog_8_method_3_code (4 : Nat) (Option.some Jvm.ClassFile.FieldType.boolean)) ∈ TW := List.mem_filter.mpr ⟨List.mem_append_right _ (List.mem_of_getElem? (i := 381) (by decide +kernel)), rfl⟩
theorem t_382 : (Jvm.Cond.selects "RangeSheet$Product" ({ cls := "RangeSheet$Relation", name := "accepts", desc := "([I)Z" } : Jvm.MethodName) ({ cls := "RangeSheet$Three", name := "accepts", desc := "([I)Z" } : Jvm.MethodName)) ∈ TW := List.mem_filter.mpr ⟨List.mem_append_right _ (List.mem_of_getElem? (i := 382) (by decide +kernel)), rfl⟩
theorem t_383 : (Jvm.Cond.selects "RangeSheet$Quotient" ({ cls := "RangeSheet$Relation", name := "accepts", desc := "([I)Z" } : Jvm.MethodName) ({ cls := "RangeSheet$Three", name := "accepts", desc := "([I)Z" } : Jvm.MethodName)) ∈ TW := List.mem_filter.mpr ⟨List.mem_append_right _ (List.mem_of_getElem? (i := 383) (by decide +kernel)), rfl⟩
theorem t_384 : (Jvm.Cond.selects "RangeSheet$Sum" ({ cls := "RangeSheet$Relation", name := "accepts", desc := "([I)Z" } : Jvm.MethodName) ({ cls := "RangeSheet$Three", name := "accepts", desc := "([I)Z" } : Jvm.MethodName)) ∈ TW := List.mem_filter.mpr ⟨List.mem_append_right _ (List.mem_of_getElem? (i := 384) (by decide +kernel)), rfl⟩
theorem t_385 : (Jvm.Cond.methodLink "RangeSheetLaw" (43 : Nat) ({ cls := "RangeSheetLaw", name := "cell", desc := "(LRangeSheet;II[J)I" } : Jvm.MethodName)) ∈ TW := List.mem_filter.mpr ⟨List.mem_append_right _ (List.mem_of_getElem? (i := 385) (by decide +kernel)), rfl⟩
theorem t_386 : (Jvm.Cond.static ({ cls := "RangeSheetLaw", name := "cell", desc := "(LRangeSheet;II[J)I" } : Jvm.MethodName)) ∈ TW := List.mem_filter.mpr ⟨List.mem_append_right _ (List.mem_of_getElem? (i := 386) (by decide +kernel)), rfl⟩
theorem t_387 : (Jvm.Cond.codeWith ({ cls := "RangeSheetLaw", name := "cell", desc := "(LRangeSheet;II[J)I" } : Jvm.MethodName) method_3_code (5 : Nat) (Option.some Jvm.ClassFile.FieldType.int) [((0 : Nat), (10 : Nat), (13 : Nat), (13 : Nat)), ((0 : Nat), (10 : Nat), (17 : Nat), (15 : Nat))]) ∈ TW := List.mem_filter.mpr ⟨List.mem_append_right _ (List.mem_of_getElem? (i := 387) (by decide +kernel)), rfl⟩
theorem t_388 : (Jvm.Cond.classLink "RangeSheetLaw" (13 : Nat) "java/lang/IllegalArgumentException") ∈ TW := List.mem_filter.mpr ⟨List.mem_append_right _ (List.mem_of_getElem? (i := 388) (by decide +kernel)), rfl⟩
theorem t_389 : (Jvm.Cond.classLink "RangeSheetLaw" (15 : Nat) "java/lang/IllegalStateException") ∈ TW := List.mem_filter.mpr ⟨List.mem_append_right _ (List.mem_of_getElem? (i := 389) (by decide +kernel)), rfl⟩
theorem t_390 : (Jvm.Cond.methodLink "RangeSheetLaw" (7 : Nat) ({ cls := "RangeSheet", name := "cell", desc := "(II)I" } : Jvm.MethodName)) ∈ TW := List.mem_filter.mpr ⟨List.mem_append_right _ (List.mem_of_getElem? (i := 390) (by decide +kernel)), rfl⟩
theorem t_391 : (Jvm.Cond.instanceMethod ({ cls := "RangeSheet", name := "cell", desc := "(II)I" } : Jvm.MethodName)) ∈ TW := List.mem_filter.mpr ⟨List.mem_append_right _ (List.mem_of_getElem? (i := 391) (by decide +kernel)), rfl⟩
theorem t_392 : (Jvm.Cond.selects "RangeSheet" ({ cls := "RangeSheet", name := "cell", desc := "(II)I" } : Jvm.MethodName) ({ cls := "RangeSheet", name := "cell", desc := "(II)I" } : Jvm.MethodName)) ∈ TW := List.mem_filter.mpr ⟨List.mem_append_right _ (List.mem_of_getElem? (i := 392) (by decide +kernel)), rfl⟩
theorem t_393 : (Jvm.Cond.code ({ cls := "RangeSheet", name := "cell", desc := "(II)I" } : Jvm.MethodName) prog_1_method_8_code (3 : Nat) (Option.some Jvm.ClassFile.FieldType.int)) ∈ TW := List.mem_filter.mpr ⟨List.mem_append_right _ (List.mem_of_getElem? (i := 393) (by decide +kernel)), rfl⟩
theorem t_394 : (Jvm.Cond.methodLink "RangeSheet" (69 : Nat) ({ cls := "RangeSheet", name := "isRange", desc := "(II)Z" } : Jvm.MethodName)) ∈ TW := List.mem_filter.mpr ⟨List.mem_append_right _ (List.mem_of_getElem? (i := 394) (by decide +kernel)), rfl⟩
theorem t_395 : (Jvm.Cond.static ({ cls := "RangeSheet", name := "isRange", desc := "(II)Z" } : Jvm.MethodName)) ∈ TW := List.mem_filter.mpr ⟨List.mem_append_right _ (List.mem_of_getElem? (i := 395) (by decide +kernel)), rfl⟩
theorem t_396 : (Jvm.Cond.code ({ cls := "RangeSheet", name := "isRange", desc := "(II)Z" } : Jvm.MethodName) prog_1_method_7_code (2 : Nat) (Option.some Jvm.ClassFile.FieldType.boolean)) ∈ TW := List.mem_filter.mpr ⟨List.mem_append_right _ (List.mem_of_getElem? (i := 396) (by decide +kernel)), rfl⟩
theorem t_397 : (Jvm.Cond.methodLink "RangeSheet" (73 : Nat) ({ cls := "RangeSheet", name := "need", desc := "(Z)V" } : Jvm.MethodName)) ∈ TW := List.mem_filter.mpr ⟨List.mem_append_right _ (List.mem_of_getElem? (i := 397) (by decide +kernel)), rfl⟩
theorem t_398 : (Jvm.Cond.static ({ cls := "RangeSheet", name := "need", desc := "(Z)V" } : Jvm.MethodName)) ∈ TW := List.mem_filter.mpr ⟨List.mem_append_right _ (List.mem_of_getElem? (i := 398) (by decide +kernel)), rfl⟩
theorem t_399 : (Jvm.Cond.code ({ cls := "RangeSheet", name := "need", desc := "(Z)V" } : Jvm.MethodName) prog_1_method_5_code (1 : Nat) (Option.none : Option Jvm.ClassFile.FieldType)) ∈ TW := List.mem_filter.mpr ⟨List.mem_append_right _ (List.mem_of_getElem? (i := 399) (by decide +kernel)), rfl⟩
theorem t_400 : (Jvm.Cond.classLink "RangeSheet" (63 : Nat) "java/lang/IllegalArgumentException") ∈ TW := List.mem_filter.mpr ⟨List.mem_append_right _ (List.mem_of_getElem? (i := 400) (by decide +kernel)), rfl⟩
theorem t_401 : (Jvm.Cond.instantiable "java/lang/IllegalArgumentException" (6 : Nat)) ∈ TW := List.mem_filter.mpr ⟨List.mem_append_right _ (List.mem_of_getElem? (i := 401) (by decide +kernel)), rfl⟩
theorem t_402 : (Jvm.Cond.castable "java/lang/IllegalArgumentException" "java/lang/IllegalArgumentException") ∈ TW := List.mem_filter.mpr ⟨List.mem_append_right _ (List.mem_of_getElem? (i := 402) (by decide +kernel)), rfl⟩
theorem t_403 : (Jvm.Cond.declares ({ cls := "java/lang/RuntimeException", name := "<init>", desc := "()V" } : Jvm.MethodName)) ∈ TW := List.mem_filter.mpr ⟨List.mem_append_right _ (List.mem_of_getElem? (i := 403) (by decide +kernel)), rfl⟩
theorem t_404 : (Jvm.Cond.declares ({ cls := "java/lang/RuntimeException", name := "<init>", desc := "(Ljava/lang/String;)V" } : Jvm.MethodName)) ∈ TW := List.mem_filter.mpr ⟨List.mem_append_right _ (List.mem_of_getElem? (i := 404) (by decide +kernel)), rfl⟩
theorem t_405 : (Jvm.Cond.declares ({ cls := "java/lang/Exception", name := "<init>", desc := "()V" } : Jvm.MethodName)) ∈ TW := List.mem_filter.mpr ⟨List.mem_append_right _ (List.mem_of_getElem? (i := 405) (by decide +kernel)), rfl⟩
theorem t_406 : (Jvm.Cond.declares ({ cls := "java/lang/Exception", name := "<init>", desc := "(Ljava/lang/String;)V" } : Jvm.MethodName)) ∈ TW := List.mem_filter.mpr ⟨List.mem_append_right _ (List.mem_of_getElem? (i := 406) (by decide +kernel)), rfl⟩
theorem t_407 : (Jvm.Cond.declares ({ cls := "java/lang/Throwable", name := "<init>", desc := "()V" } : Jvm.MethodName)) ∈ TW := List.mem_filter.mpr ⟨List.mem_append_right _ (List.mem_of_getElem? (i := 407) (by decide +kernel)), rfl⟩
theorem t_408 : (Jvm.Cond.declares ({ cls := "java/lang/Throwable", name := "<init>", desc := "(Ljava/lang/String;)V" } : Jvm.MethodName)) ∈ TW := List.mem_filter.mpr ⟨List.mem_append_right _ (List.mem_of_getElem? (i := 408) (by decide +kernel)), rfl⟩
theorem t_409 : (Jvm.Cond.selects "java/lang/IllegalArgumentException" ({ cls := "java/lang/Throwable", name := "fillInStackTrace", desc := "(I)Ljava/lang/Throwable;" } : Jvm.MethodName) ({ cls := "java/lang/Throwable", name := "fillInStackTrace", desc := "(I)Ljava/lang/Throwable;" } : Jvm.MethodName)) ∈ TW := List.mem_filter.mpr ⟨List.mem_append_right _ (List.mem_of_getElem? (i := 409) (by decide +kernel)), rfl⟩
theorem t_410 : (Jvm.Cond.selects "java/lang/IllegalArgumentException" ({ cls := "java/lang/Throwable", name := "fillInStackTrace", desc := "()Ljava/lang/Throwable;" } : Jvm.MethodName) ({ cls := "java/lang/Throwable", name := "fillInStackTrace", desc := "()Ljava/lang/Throwable;" } : Jvm.MethodName)) ∈ TW := List.mem_filter.mpr ⟨List.mem_append_right _ (List.mem_of_getElem? (i := 410) (by decide +kernel)), rfl⟩
theorem t_421 : (Jvm.Cond.fieldLink "java/lang/Throwable" (198 : Nat) "java/lang/Throwable" "backtrace" "Ljava/lang/Object;") ∈ TW := List.mem_filter.mpr ⟨List.mem_append_right _ (List.mem_of_getElem? (i := 421) (by decide +kernel)), rfl⟩
theorem t_423 : (Jvm.Cond.instanceMethod ({ cls := "java/lang/Throwable", name := "<init>", desc := "()V" } : Jvm.MethodName)) ∈ TW := List.mem_filter.mpr ⟨List.mem_append_right _ (List.mem_of_getElem? (i := 423) (by decide +kernel)), rfl⟩
theorem t_424 : (Jvm.Cond.code ({ cls := "java/lang/Throwable", name := "<init>", desc := "()V" } : Jvm.MethodName) prog_23_method_1_code (1 : Nat) (Option.none : Option Jvm.ClassFile.FieldType)) ∈ TW := List.mem_filter.mpr ⟨List.mem_append_right _ (List.mem_of_getElem? (i := 424) (by decide +kernel)), rfl⟩
theorem t_425 : (Jvm.Cond.methodLink "java/lang/Throwable" (1 : Nat) ({ cls := "java/lang/Object", name := "<init>", desc := "()V" } : Jvm.MethodName)) ∈ TW := List.mem_filter.mpr ⟨List.mem_append_right _ (List.mem_of_getElem? (i := 425) (by decide +kernel)), rfl⟩
theorem t_426 : (Jvm.Cond.fieldLink "java/lang/Throwable" (13 : Nat) "java/lang/Throwable" "UNASSIGNED_STACK" "[Ljava/lang/StackTraceElement;") ∈ TW := List.mem_filter.mpr ⟨List.mem_append_right _ (List.mem_of_getElem? (i := 426) (by decide +kernel)), rfl⟩
theorem t_428 : (Jvm.Cond.fieldLink "java/lang/Throwable" (20 : Nat) "java/lang/Throwable" "SUPPRESSED_SENTINEL" "Ljava/util/List;") ∈ TW := List.mem_filter.mpr ⟨List.mem_append_right _ (List.mem_of_getElem? (i := 428) (by decide +kernel)), rfl⟩
theorem t_430 : (Jvm.Cond.methodLink "java/lang/Throwable" (27 : Nat) ({ cls := "java/lang/Throwable", name := "fillInStackTrace", desc := "()Ljava/lang/Throwable;" } : Jvm.MethodName)) ∈ TW := List.mem_filter.mpr ⟨List.mem_append_right _ (List.mem_of_getElem? (i := 430) (by decide +kernel)), rfl⟩
theorem t_431 : (Jvm.Cond.instanceMethod ({ cls := "java/lang/Throwable", name := "fillInStackTrace", desc := "()Ljava/lang/Throwable;" } : Jvm.MethodName)) ∈ TW := List.mem_filter.mpr ⟨List.mem_append_right _ (List.mem_of_getElem? (i := 431) (by decide +kernel)), rfl⟩
theorem t_432 : (Jvm.Cond.sameMethod "java/lang/Throwable" "java/lang/Throwable" "fillInStackTrace" "()Ljava/lang/Throwable;") ∈ TW := List.mem_filter.mpr ⟨List.mem_append_right _ (List.mem_of_getElem? (i := 432) (by decide +kernel)), rfl⟩
theorem t_433 : (Jvm.Cond.selects "java/lang/IllegalStateException" ({ cls := "java/lang/Throwable", name := "fillInStackTrace", desc := "()Ljava/lang/Throwable;" } : Jvm.MethodName) ({ cls := "java/lang/Throwable", name := "fillInStackTrace", desc := "()Ljava/lang/Throwable;" } : Jvm.MethodName)) ∈ TW := List.mem_filter.mpr ⟨List.mem_append_right _ (List.mem_of_getElem? (i := 433) (by decide +kernel)), rfl⟩
theorem t_435 : (Jvm.Cond.methodLink "java/lang/Throwable" (202 : Nat) ({ cls := "java/lang/Throwable", name := "fillInStackTrace", desc := "(I)Ljava/lang/Throwable;" } : Jvm.MethodName)) ∈ TW := List.mem_filter.mpr ⟨List.mem_append_right _ (List.mem_of_getElem? (i := 435) (by decide +kernel)), rfl⟩
theorem t_437 : (Jvm.Cond.instanceMethod ({ cls := "java/lang/Throwable", name := "fillInStackTrace", desc := "(I)Ljava/lang/Throwable;" } : Jvm.MethodName)) ∈ TW := List.mem_filter.mpr ⟨List.mem_append_right _ (List.mem_of_getElem? (i := 437) (by decide +kernel)), rfl⟩
theorem t_438 : (Jvm.Cond.instantiable "java/lang/Throwable" (6 : Nat)) ∈ TW := List.mem_filter.mpr ⟨List.mem_append_right _ (List.mem_of_getElem? (i := 438) (by decide +kernel)), rfl⟩
theorem t_439 : (Jvm.Cond.native ({ cls := "java/lang/Throwable", name := "fillInStackTrace", desc := "(I)Ljava/lang/Throwable;" } : Jvm.MethodName)) ∈ TW := List.mem_filter.mpr ⟨List.mem_append_right _ (List.mem_of_getElem? (i := 439) (by decide +kernel)), rfl⟩
theorem t_440 : (Jvm.Cond.methodLink "RangeSheet" (65 : Nat) ({ cls := "java/lang/IllegalArgumentException", name := "<init>", desc := "()V" } : Jvm.MethodName)) ∈ TW := List.mem_filter.mpr ⟨List.mem_append_right _ (List.mem_of_getElem? (i := 440) (by decide +kernel)), rfl⟩
theorem t_441 : (Jvm.Cond.instanceMethod ({ cls := "java/lang/IllegalArgumentException", name := "<init>", desc := "()V" } : Jvm.MethodName)) ∈ TW := List.mem_filter.mpr ⟨List.mem_append_right _ (List.mem_of_getElem? (i := 441) (by decide +kernel)), rfl⟩
theorem t_442 : (Jvm.Cond.code ({ cls := "java/lang/IllegalArgumentException", name := "<init>", desc := "()V" } : Jvm.MethodName) prog_18_method_1_code (1 : Nat) (Option.none : Option Jvm.ClassFile.FieldType)) ∈ TW := List.mem_filter.mpr ⟨List.mem_append_right _ (List.mem_of_getElem? (i := 442) (by decide +kernel)), rfl⟩
theorem t_443 : (Jvm.Cond.methodLink "java/lang/IllegalArgumentException" (1 : Nat) ({ cls := "java/lang/RuntimeException", name := "<init>", desc := "()V" } : Jvm.MethodName)) ∈ TW := List.mem_filter.mpr ⟨List.mem_append_right _ (List.mem_of_getElem? (i := 443) (by decide +kernel)), rfl⟩
theorem t_444 : (Jvm.Cond.instanceMethod ({ cls := "java/lang/RuntimeException", name := "<init>", desc := "()V" } : Jvm.MethodName)) ∈ TW := List.mem_filter.mpr ⟨List.mem_append_right _ (List.mem_of_getElem? (i := 444) (by decide +kernel)), rfl⟩
theorem t_445 : (Jvm.Cond.code ({ cls := "java/lang/RuntimeException", name := "<init>", desc := "()V" } : Jvm.MethodName) prog_21_method_1_code (1 : Nat) (Option.none : Option Jvm.ClassFile.FieldType)) ∈ TW := List.mem_filter.mpr ⟨List.mem_append_right _ (List.mem_of_getElem? (i := 445) (by decide +kernel)), rfl⟩
theorem t_446 : (Jvm.Cond.methodLink "java/lang/RuntimeException" (1 : Nat) ({ cls := "java/lang/Exception", name := "<init>", desc := "()V" } : Jvm.MethodName)) ∈ TW := List.mem_filter.mpr ⟨List.mem_append_right _ (List.mem_of_getElem? (i := 446) (by decide +kernel)), rfl⟩
theorem t_447 : (Jvm.Cond.instanceMethod ({ cls := "java/lang/Exception", name := "<init>", desc := "()V" } : Jvm.MethodName)) ∈ TW := List.mem_filter.mpr ⟨List.mem_append_right _ (List.mem_of_getElem? (i := 447) (by decide +kernel)), rfl⟩
theorem t_448 : (Jvm.Cond.code ({ cls := "java/lang/Exception", name := "<init>", desc := "()V" } : Jvm.MethodName) prog_17_method_1_code (1 : Nat) (Option.none : Option Jvm.ClassFile.FieldType)) ∈ TW := List.mem_filter.mpr ⟨List.mem_append_right _ (List.mem_of_getElem? (i := 448) (by decide +kernel)), rfl⟩
theorem t_449 : (Jvm.Cond.methodLink "java/lang/Exception" (1 : Nat) ({ cls := "java/lang/Throwable", name := "<init>", desc := "()V" } : Jvm.MethodName)) ∈ TW := List.mem_filter.mpr ⟨List.mem_append_right _ (List.mem_of_getElem? (i := 449) (by decide +kernel)), rfl⟩
theorem t_450 : (Jvm.Cond.fieldLink "java/lang/Throwable" (198 : Nat) "java/lang/Throwable" "backtrace" "Ljava/lang/Object;") ∈ TW := List.mem_filter.mpr ⟨List.mem_append_right _ (List.mem_of_getElem? (i := 450) (by decide +kernel)), rfl⟩
theorem t_451 : (Jvm.Cond.fieldLink "java/lang/Throwable" (7 : Nat) "java/lang/Throwable" "cause" "Ljava/lang/Throwable;") ∈ TW := List.mem_filter.mpr ⟨List.mem_append_right _ (List.mem_of_getElem? (i := 451) (by decide +kernel)), rfl⟩
theorem t_452 : (Jvm.Cond.fieldLink "java/lang/Throwable" (17 : Nat) "java/lang/Throwable" "stackTrace" "[Ljava/lang/StackTraceElement;") ∈ TW := List.mem_filter.mpr ⟨List.mem_append_right _ (List.mem_of_getElem? (i := 452) (by decide +kernel)), rfl⟩
theorem t_453 : (Jvm.Cond.fieldLink "java/lang/Throwable" (24 : Nat) "java/lang/Throwable" "suppressedExceptions" "Ljava/util/List;") ∈ TW := List.mem_filter.mpr ⟨List.mem_append_right _ (List.mem_of_getElem? (i := 453) (by decide +kernel)), rfl⟩
theorem t_462 : (Jvm.Cond.methodLink "RangeSheet" (77 : Nat) ({ cls := "RangeSheet", name := "needRoom", desc := "(Z)V" } : Jvm.MethodName)) ∈ TW := List.mem_filter.mpr ⟨List.mem_append_right _ (List.mem_of_getElem? (i := 462) (by decide +kernel)), rfl⟩
theorem t_463 : (Jvm.Cond.static ({ cls := "RangeSheet", name := "needRoom", desc := "(Z)V" } : Jvm.MethodName)) ∈ TW := List.mem_filter.mpr ⟨List.mem_append_right _ (List.mem_of_getElem? (i := 463) (by decide +kernel)), rfl⟩
theorem t_464 : (Jvm.Cond.code ({ cls := "RangeSheet", name := "needRoom", desc := "(Z)V" } : Jvm.MethodName) prog_1_method_6_code (1 : Nat) (Option.none : Option Jvm.ClassFile.FieldType)) ∈ TW := List.mem_filter.mpr ⟨List.mem_append_right _ (List.mem_of_getElem? (i := 464) (by decide +kernel)), rfl⟩
theorem t_465 : (Jvm.Cond.classLink "RangeSheet" (66 : Nat) "java/lang/IllegalStateException") ∈ TW := List.mem_filter.mpr ⟨List.mem_append_right _ (List.mem_of_getElem? (i := 465) (by decide +kernel)), rfl⟩
theorem t_466 : (Jvm.Cond.instantiable "java/lang/IllegalStateException" (6 : Nat)) ∈ TW := List.mem_filter.mpr ⟨List.mem_append_right _ (List.mem_of_getElem? (i := 466) (by decide +kernel)), rfl⟩
theorem t_467 : (Jvm.Cond.castable "java/lang/IllegalStateException" "java/lang/IllegalStateException") ∈ TW := List.mem_filter.mpr ⟨List.mem_append_right _ (List.mem_of_getElem? (i := 467) (by decide +kernel)), rfl⟩
theorem t_468 : (Jvm.Cond.selects "java/lang/IllegalStateException" ({ cls := "java/lang/Throwable", name := "fillInStackTrace", desc := "(I)Ljava/lang/Throwable;" } : Jvm.MethodName) ({ cls := "java/lang/Throwable", name := "fillInStackTrace", desc := "(I)Ljava/lang/Throwable;" } : Jvm.MethodName)) ∈ TW := List.mem_filter.mpr ⟨List.mem_append_right _ (List.mem_of_getElem? (i := 468) (by decide +kernel)), rfl⟩
theorem t_474 : (Jvm.Cond.methodLink "RangeSheet" (68 : Nat) ({ cls := "java/lang/IllegalStateException", name := "<init>", desc := "()V" } : Jvm.MethodName)) ∈ TW := List.mem_filter.mpr ⟨List.mem_append_right _ (List.mem_of_getElem? (i := 474) (by decide +kernel)), rfl⟩
theorem t_475 : (Jvm.Cond.instanceMethod ({ cls := "java/lang/IllegalStateException", name := "<init>", desc := "()V" } : Jvm.MethodName)) ∈ TW := List.mem_filter.mpr ⟨List.mem_append_right _ (List.mem_of_getElem? (i := 475) (by decide +kernel)), rfl⟩
theorem t_476 : (Jvm.Cond.code ({ cls := "java/lang/IllegalStateException", name := "<init>", desc := "()V" } : Jvm.MethodName) prog_19_method_1_code (1 : Nat) (Option.none : Option Jvm.ClassFile.FieldType)) ∈ TW := List.mem_filter.mpr ⟨List.mem_append_right _ (List.mem_of_getElem? (i := 476) (by decide +kernel)), rfl⟩
theorem t_477 : (Jvm.Cond.methodLink "java/lang/IllegalStateException" (1 : Nat) ({ cls := "java/lang/RuntimeException", name := "<init>", desc := "()V" } : Jvm.MethodName)) ∈ TW := List.mem_filter.mpr ⟨List.mem_append_right _ (List.mem_of_getElem? (i := 477) (by decide +kernel)), rfl⟩
theorem t_480 : (Jvm.Cond.methodLink "RangeSheetLaw" (53 : Nat) ({ cls := "RangeSheetLaw", name := "relate", desc := "(LRangeSheet;IIII[J)I" } : Jvm.MethodName)) ∈ TW := List.mem_filter.mpr ⟨List.mem_append_right _ (List.mem_of_getElem? (i := 480) (by decide +kernel)), rfl⟩
theorem t_481 : (Jvm.Cond.static ({ cls := "RangeSheetLaw", name := "relate", desc := "(LRangeSheet;IIII[J)I" } : Jvm.MethodName)) ∈ TW := List.mem_filter.mpr ⟨List.mem_append_right _ (List.mem_of_getElem? (i := 481) (by decide +kernel)), rfl⟩
theorem t_482 : (Jvm.Cond.codeWith ({ cls := "RangeSheetLaw", name := "relate", desc := "(LRangeSheet;IIII[J)I" } : Jvm.MethodName) method_4_code (7 : Nat) (Option.some Jvm.ClassFile.FieldType.int) [((0 : Nat), (14 : Nat), (17 : Nat), (13 : Nat)), ((0 : Nat), (14 : Nat), (21 : Nat), (15 : Nat))]) ∈ TW := List.mem_filter.mpr ⟨List.mem_append_right _ (List.mem_of_getElem? (i := 482) (by decide +kernel)), rfl⟩
theorem t_483 : (Jvm.Cond.methodLink "RangeSheetLaw" (17 : Nat) ({ cls := "RangeSheet", name := "relate", desc := "(IIII)I" } : Jvm.MethodName)) ∈ TW := List.mem_filter.mpr ⟨List.mem_append_right _ (List.mem_of_getElem? (i := 483) (by decide +kernel)), rfl⟩
theorem t_484 : (Jvm.Cond.instanceMethod ({ cls := "RangeSheet", name := "relate", desc := "(IIII)I" } : Jvm.MethodName)) ∈ TW := List.mem_filter.mpr ⟨List.mem_append_right _ (List.mem_of_getElem? (i := 484) (by decide +kernel)), rfl⟩
theorem t_485 : (Jvm.Cond.selects "RangeSheet" ({ cls := "RangeSheet", name := "relate", desc := "(IIII)I" } : Jvm.MethodName) ({ cls := "RangeSheet", name := "relate", desc := "(IIII)I" } : Jvm.MethodName)) ∈ TW := List.mem_filter.mpr ⟨List.mem_append_right _ (List.mem_of_getElem? (i := 485) (by decide +kernel)), rfl⟩
theorem t_486 : (Jvm.Cond.code ({ cls := "RangeSheet", name := "relate", desc := "(IIII)I" } : Jvm.MethodName) prog_1_method_11_code (5 : Nat) (Option.some Jvm.ClassFile.FieldType.int)) ∈ TW := List.mem_filter.mpr ⟨List.mem_append_right _ (List.mem_of_getElem? (i := 486) (by decide +kernel)), rfl⟩
theorem t_487 : (Jvm.Cond.methodLink "RangeSheet" (123 : Nat) ({ cls := "RangeSheet", name := "isGood", desc := "(IIII)Z" } : Jvm.MethodName)) ∈ TW := List.mem_filter.mpr ⟨List.mem_append_right _ (List.mem_of_getElem? (i := 487) (by decide +kernel)), rfl⟩
theorem t_489 : (Jvm.Cond.instanceMethod ({ cls := "RangeSheet", name := "isGood", desc := "(IIII)Z" } : Jvm.MethodName)) ∈ TW := List.mem_filter.mpr ⟨List.mem_append_right _ (List.mem_of_getElem? (i := 489) (by decide +kernel)), rfl⟩
theorem t_490 : (Jvm.Cond.code ({ cls := "RangeSheet", name := "isGood", desc := "(IIII)Z" } : Jvm.MethodName) prog_1_method_9_code (6 : Nat) (Option.some Jvm.ClassFile.FieldType.boolean)) ∈ TW := List.mem_filter.mpr ⟨List.mem_append_right _ (List.mem_of_getElem? (i := 490) (by decide +kernel)), rfl⟩
theorem t_491 : (Jvm.Cond.methodLink "RangeSheet" (86 : Nat) ({ cls := "RangeSheet", name := "isCell", desc := "(I)Z" } : Jvm.MethodName)) ∈ TW := List.mem_filter.mpr ⟨List.mem_append_right _ (List.mem_of_getElem? (i := 491) (by decide +kernel)), rfl⟩
theorem t_493 : (Jvm.Cond.instanceMethod ({ cls := "RangeSheet", name := "isCell", desc := "(I)Z" } : Jvm.MethodName)) ∈ TW := List.mem_filter.mpr ⟨List.mem_append_right _ (List.mem_of_getElem? (i := 493) (by decide +kernel)), rfl⟩
theorem t_494 : (Jvm.Cond.code ({ cls := "RangeSheet", name := "isCell", desc := "(I)Z" } : Jvm.MethodName) prog_1_method_4_code (2 : Nat) (Option.some Jvm.ClassFile.FieldType.boolean)) ∈ TW := List.mem_filter.mpr ⟨List.mem_append_right _ (List.mem_of_getElem? (i := 494) (by decide +kernel)), rfl⟩
theorem t_495 : (Jvm.Cond.methodLink "RangeSheet" (130 : Nat) ({ cls := "RangeSheet", name := "make", desc := "(IIII)LRangeSheet$Relation;" } : Jvm.MethodName)) ∈ TW := List.mem_filter.mpr ⟨List.mem_append_right _ (List.mem_of_getElem? (i := 495) (by decide +kernel)), rfl⟩
theorem t_497 : (Jvm.Cond.instanceMethod ({ cls := "RangeSheet", name := "make", desc := "(IIII)LRangeSheet$Relation;" } : Jvm.MethodName)) ∈ TW := List.mem_filter.mpr ⟨List.mem_append_right _ (List.mem_of_getElem? (i := 497) (by decide +kernel)), rfl⟩
theorem t_498 : (Jvm.Cond.code ({ cls := "RangeSheet", name := "make", desc := "(IIII)LRangeSheet$Relation;" } : Jvm.MethodName) prog_1_method_10_code (5 : Nat) (Option.some (Jvm.ClassFile.FieldType.object "RangeSheet$Relation"))) ∈ TW := List.mem_filter.mpr ⟨List.mem_append_right _ (List.mem_of_getElem? (i := 498) (by decide +kernel)), rfl⟩
theorem t_499 : (Jvm.Cond.classLink "RangeSheet" (90 : Nat) "RangeSheet$Sum") ∈ TW := List.mem_filter.mpr ⟨List.mem_append_right _ (List.mem_of_getElem? (i := 499) (by decide +kernel)), rfl⟩
theorem t_500 : (Jvm.Cond.instantiable "RangeSheet$Sum" (10 : Nat)) ∈ TW := List.mem_filter.mpr ⟨List.mem_append_right _ (List.mem_of_getElem? (i := 500) (by decide +kernel)), rfl⟩
theorem t_501 : (Jvm.Cond.methodLink "RangeSheet" (92 : Nat) ({ cls := "RangeSheet$Sum", name := "<init>", desc := "(III)V" } : Jvm.MethodName)) ∈ TW := List.mem_filter.mpr ⟨List.mem_append_right _ (List.mem_of_getElem? (i := 501) (by decide +kernel)), rfl⟩
theorem t_502 : (Jvm.Cond.instanceMethod ({ cls := "RangeSheet$Sum", name := "<init>", desc := "(III)V" } : Jvm.MethodName)) ∈ TW := List.mem_filter.mpr ⟨List.mem_append_right _ (List.mem_of_getElem? (i := 502) (by decide +kernel)), rfl⟩
theorem t_503 : (Jvm.Cond.code ({ cls := "RangeSheet$Sum", name := "<init>", desc := "(III)V" } : Jvm.MethodName) prog_13_method_1_code (4 : Nat) (Option.none : Option Jvm.ClassFile.FieldType)) ∈ TW := List.mem_filter.mpr ⟨List.mem_append_right _ (List.mem_of_getElem? (i := 503) (by decide +kernel)), rfl⟩
theorem t_504 : (Jvm.Cond.methodLink "RangeSheet$Sum" (1 : Nat) ({ cls := "RangeSheet$Three", name := "<init>", desc := "(III)V" } : Jvm.MethodName)) ∈ TW := List.mem_filter.mpr ⟨List.mem_append_right _ (List.mem_of_getElem? (i := 504) (by decide +kernel)), rfl⟩
theorem t_505 : (Jvm.Cond.instanceMethod ({ cls := "RangeSheet$Three", name := "<init>", desc := "(III)V" } : Jvm.MethodName)) ∈ TW := List.mem_filter.mpr ⟨List.mem_append_right _ (List.mem_of_getElem? (i := 505) (by decide +kernel)), rfl⟩
theorem t_506 : (Jvm.Cond.code ({ cls := "RangeSheet$Three", name := "<init>", desc := "(III)V" } : Jvm.MethodName) prog_14_method_1_code (4 : Nat) (Option.none : Option Jvm.ClassFile.FieldType)) ∈ TW := List.mem_filter.mpr ⟨List.mem_append_right _ (List.mem_of_getElem? (i := 506) (by decide +kernel)), rfl⟩
theorem t_507 : (Jvm.Cond.methodLinkNest "RangeSheet$Three" (3 : Nat) ({ cls := "RangeSheet$Relation", name := "<init>", desc := "()V" } : Jvm.MethodName) "RangeSheet") ∈ TW := List.mem_filter.mpr ⟨List.mem_append_right _ (List.mem_of_getElem? (i := 507) (by decide +kernel)), rfl⟩
theorem t_508 : (Jvm.Cond.instanceMethod ({ cls := "RangeSheet$Relation", name := "<init>", desc := "()V" } : Jvm.MethodName)) ∈ TW := List.mem_filter.mpr ⟨List.mem_append_right _ (List.mem_of_getElem? (i := 508) (by decide +kernel)), rfl⟩
theorem t_509 : (Jvm.Cond.code ({ cls := "RangeSheet$Relation", name := "<init>", desc := "()V" } : Jvm.MethodName) prog_11_method_1_code (1 : Nat) (Option.none : Option Jvm.ClassFile.FieldType)) ∈ TW := List.mem_filter.mpr ⟨List.mem_append_right _ (List.mem_of_getElem? (i := 509) (by decide +kernel)), rfl⟩
theorem t_510 : (Jvm.Cond.methodLink "RangeSheet$Relation" (1 : Nat) ({ cls := "java/lang/Object", name := "<init>", desc := "()V" } : Jvm.MethodName)) ∈ TW := List.mem_filter.mpr ⟨List.mem_append_right _ (List.mem_of_getElem? (i := 510) (by decide +kernel)), rfl⟩
theorem t_511 : (Jvm.Cond.fieldLink "RangeSheet$Three" (9 : Nat) "RangeSheet$Three" "a" "I") ∈ TW := List.mem_filter.mpr ⟨List.mem_append_right _ (List.mem_of_getElem? (i := 511) (by decide +kernel)), rfl⟩
theorem t_512 : (Jvm.Cond.fieldLink "RangeSheet$Three" (15 : Nat) "RangeSheet$Three" "b" "I") ∈ TW := List.mem_filter.mpr ⟨List.mem_append_right _ (List.mem_of_getElem? (i := 512) (by decide +kernel)), rfl⟩
theorem t_513 : (Jvm.Cond.fieldLink "RangeSheet$Three" (18 : Nat) "RangeSheet$Three" "c" "I") ∈ TW := List.mem_filter.mpr ⟨List.mem_append_right _ (List.mem_of_getElem? (i := 513) (by decide +kernel)), rfl⟩
theorem t_514 : (Jvm.Cond.fieldLink "RangeSheet$Three" (31 : Nat) "RangeSheet$Three" "lowA" "I") ∈ TW := List.mem_filter.mpr ⟨List.mem_append_right _ (List.mem_of_getElem? (i := 514) (by decide +kernel)), rfl⟩
theorem t_515 : (Jvm.Cond.fieldLink "RangeSheet$Three" (37 : Nat) "RangeSheet$Three" "highA" "I") ∈ TW := List.mem_filter.mpr ⟨List.mem_append_right _ (List.mem_of_getElem? (i := 515) (by decide +kernel)), rfl⟩
theorem t_516 : (Jvm.Cond.fieldLink "RangeSheet$Three" (40 : Nat) "RangeSheet$Three" "lowB" "I") ∈ TW := List.mem_filter.mpr ⟨List.mem_append_right _ (List.mem_of_getElem? (i := 516) (by decide +kernel)), rfl⟩
theorem t_517 : (Jvm.Cond.fieldLink "RangeSheet$Three" (43 : Nat) "RangeSheet$Three" "highB" "I") ∈ TW := List.mem_filter.mpr ⟨List.mem_append_right _ (List.mem_of_getElem? (i := 517) (by decide +kernel)), rfl⟩
theorem t_518 : (Jvm.Cond.fieldLink "RangeSheet$Three" (46 : Nat) "RangeSheet$Three" "lowC" "I") ∈ TW := List.mem_filter.mpr ⟨List.mem_append_right _ (List.mem_of_getElem? (i := 518) (by decide +kernel)), rfl⟩
theorem t_519 : (Jvm.Cond.fieldLink "RangeSheet$Three" (49 : Nat) "RangeSheet$Three" "highC" "I") ∈ TW := List.mem_filter.mpr ⟨List.mem_append_right _ (List.mem_of_getElem? (i := 519) (by decide +kernel)), rfl⟩
theorem t_520 : (Jvm.Cond.fieldLink "RangeSheet$Relation" (7 : Nat) "RangeSheet$Relation" "good" "Z") ∈ TW := List.mem_filter.mpr ⟨List.mem_append_right _ (List.mem_of_getElem? (i := 520) (by decide +kernel)), rfl⟩
theorem t_521 : (Jvm.Cond.fieldLinkNest "RangeSheet" (134 : Nat) "RangeSheet$Relation" "good" "Z" "RangeSheet") ∈ TW := List.mem_filter.mpr ⟨List.mem_append_right _ (List.mem_of_getElem? (i := 521) (by decide +kernel)), rfl⟩
theorem t_543 : (Jvm.Cond.classLink "RangeSheet" (95 : Nat) "RangeSheet$Product") ∈ TW := List.mem_filter.mpr ⟨List.mem_append_right _ (List.mem_of_getElem? (i := 543) (by decide +kernel)), rfl⟩
theorem t_544 : (Jvm.Cond.instantiable "RangeSheet$Product" (10 : Nat)) ∈ TW := List.mem_filter.mpr ⟨List.mem_append_right _ (List.mem_of_getElem? (i := 544) (by decide +kernel)), rfl⟩
theorem t_545 : (Jvm.Cond.methodLink "RangeSheet" (97 : Nat) ({ cls := "RangeSheet$Product", name := "<init>", desc := "(III)V" } : Jvm.MethodName)) ∈ TW := List.mem_filter.mpr ⟨List.mem_append_right _ (List.mem_of_getElem? (i := 545) (by decide +kernel)), rfl⟩
theorem t_546 : (Jvm.Cond.instanceMethod ({ cls := "RangeSheet$Product", name := "<init>", desc := "(III)V" } : Jvm.MethodName)) ∈ TW := List.mem_filter.mpr ⟨List.mem_append_right _ (List.mem_of_getElem? (i := 546) (by decide +kernel)), rfl⟩
theorem t_547 : (Jvm.Cond.code ({ cls := "RangeSheet$Product", name := "<init>", desc := "(III)V" } : Jvm.MethodName) prog_9_method_1_code (4 : Nat) (Option.none : Option Jvm.ClassFile.FieldType)) ∈ TW := List.mem_filter.mpr ⟨List.mem_append_right _ (List.mem_of_getElem? (i := 547) (by decide +kernel)), rfl⟩
theorem t_548 : (Jvm.Cond.methodLink "RangeSheet$Product" (1 : Nat) ({ cls := "RangeSheet$Three", name := "<init>", desc := "(III)V" } : Jvm.MethodName)) ∈ TW := List.mem_filter.mpr ⟨List.mem_append_right _ (List.mem_of_getElem? (i := 548) (by decide +kernel)), rfl⟩
theorem t_560 : (Jvm.Cond.classLink "RangeSheet" (98 : Nat) "RangeSheet$Quotient") ∈ TW := List.mem_filter.mpr ⟨List.mem_append_right _ (List.mem_of_getElem? (i := 560) (by decide +kernel)), rfl⟩
theorem t_561 : (Jvm.Cond.instantiable "RangeSheet$Quotient" (10 : Nat)) ∈ TW := List.mem_filter.mpr ⟨List.mem_append_right _ (List.mem_of_getElem? (i := 561) (by decide +kernel)), rfl⟩
theorem t_562 : (Jvm.Cond.methodLink "RangeSheet" (100 : Nat) ({ cls := "RangeSheet$Quotient", name := "<init>", desc := "(III)V" } : Jvm.MethodName)) ∈ TW := List.mem_filter.mpr ⟨List.mem_append_right _ (List.mem_of_getElem? (i := 562) (by decide +kernel)), rfl⟩
theorem t_563 : (Jvm.Cond.instanceMethod ({ cls := "RangeSheet$Quotient", name := "<init>", desc := "(III)V" } : Jvm.MethodName)) ∈ TW := List.mem_filter.mpr ⟨List.mem_append_right _ (List.mem_of_getElem? (i := 563) (by decide +kernel)), rfl⟩
theorem t_564 : (Jvm.Cond.code ({ cls := "RangeSheet$Quotient", name := "<init>", desc := "(III)V" } : Jvm.MethodName) prog_10_method_1_code (4 : Nat) (Option.none : Option Jvm.ClassFile.FieldType)) ∈ TW := List.mem_filter.mpr ⟨List.mem_append_right _ (List.mem_of_getElem? (i := 564) (by decide +kernel)), rfl⟩
theorem t_565 : (Jvm.Cond.methodLink "RangeSheet$Quotient" (1 : Nat) ({ cls := "RangeSheet$Three", name := "<init>", desc := "(III)V" } : Jvm.MethodName)) ∈ TW := List.mem_filter.mpr ⟨List.mem_append_right _ (List.mem_of_getElem? (i := 565) (by decide +kernel)), rfl⟩
theorem t_577 : (Jvm.Cond.classLink "RangeSheet" (101 : Nat) "RangeSheet$Lesser") ∈ TW := List.mem_filter.mpr ⟨List.mem_append_right _ (List.mem_of_getElem? (i := 577) (by decide +kernel)), rfl⟩
theorem t_578 : (Jvm.Cond.instantiable "RangeSheet$Lesser" (10 : Nat)) ∈ TW := List.mem_filter.mpr ⟨List.mem_append_right _ (List.mem_of_getElem? (i := 578) (by decide +kernel)), rfl⟩
theorem t_579 : (Jvm.Cond.methodLink "RangeSheet" (103 : Nat) ({ cls := "RangeSheet$Lesser", name := "<init>", desc := "(III)V" } : Jvm.MethodName)) ∈ TW := List.mem_filter.mpr ⟨List.mem_append_right _ (List.mem_of_getElem? (i := 579) (by decide +kernel)), rfl⟩
theorem t_580 : (Jvm.Cond.instanceMethod ({ cls := "RangeSheet$Lesser", name := "<init>", desc := "(III)V" } : Jvm.MethodName)) ∈ TW := List.mem_filter.mpr ⟨List.mem_append_right _ (List.mem_of_getElem? (i := 580) (by decide +kernel)), rfl⟩
theorem t_581 : (Jvm.Cond.code ({ cls := "RangeSheet$Lesser", name := "<init>", desc := "(III)V" } : Jvm.MethodName) prog_7_method_1_code (4 : Nat) (Option.none : Option Jvm.ClassFile.FieldType)) ∈ TW := List.mem_filter.mpr ⟨List.mem_append_right _ (List.mem_of_getElem? (i := 581) (by decide +kernel)), rfl⟩
theorem t_582 : (Jvm.Cond.methodLink "RangeSheet$Lesser" (1 : Nat) ({ cls := "RangeSheet$Three", name := "<init>", desc := "(III)V" } : Jvm.MethodName)) ∈ TW := List.mem_filter.mpr ⟨List.mem_append_right _ (List.mem_of_getElem? (i := 582) (by decide +kernel)), rfl⟩
theorem t_594 : (Jvm.Cond.classLink "RangeSheet" (104 : Nat) "RangeSheet$Greater") ∈ TW := List.mem_filter.mpr ⟨List.mem_append_right _ (List.mem_of_getElem? (i := 594) (by decide +kernel)), rfl⟩
theorem t_595 : (Jvm.Cond.instantiable "RangeSheet$Greater" (10 : Nat)) ∈ TW := List.mem_filter.mpr ⟨List.mem_append_right _ (List.mem_of_getElem? (i := 595) (by decide +kernel)), rfl⟩
theorem t_596 : (Jvm.Cond.methodLink "RangeSheet" (106 : Nat) ({ cls := "RangeSheet$Greater", name := "<init>", desc := "(III)V" } : Jvm.MethodName)) ∈ TW := List.mem_filter.mpr ⟨List.mem_append_right _ (List.mem_of_getElem? (i := 596) (by decide +kernel)), rfl⟩
theorem t_597 : (Jvm.Cond.instanceMethod ({ cls := "RangeSheet$Greater", name := "<init>", desc := "(III)V" } : Jvm.MethodName)) ∈ TW := List.mem_filter.mpr ⟨List.mem_append_right _ (List.mem_of_getElem? (i := 597) (by decide +kernel)), rfl⟩
theorem t_598 : (Jvm.Cond.code ({ cls := "RangeSheet$Greater", name := "<init>", desc := "(III)V" } : Jvm.MethodName) prog_5_method_1_code (4 : Nat) (Option.none : Option Jvm.ClassFile.FieldType)) ∈ TW := List.mem_filter.mpr ⟨List.mem_append_right _ (List.mem_of_getElem? (i := 598) (by decide +kernel)), rfl⟩
theorem t_599 : (Jvm.Cond.methodLink "RangeSheet$Greater" (1 : Nat) ({ cls := "RangeSheet$Three", name := "<init>", desc := "(III)V" } : Jvm.MethodName)) ∈ TW := List.mem_filter.mpr ⟨List.mem_append_right _ (List.mem_of_getElem? (i := 599) (by decide +kernel)), rfl⟩
theorem t_611 : (Jvm.Cond.classLink "RangeSheet" (107 : Nat) "RangeSheet$AtMost") ∈ TW := List.mem_filter.mpr ⟨List.mem_append_right _ (List.mem_of_getElem? (i := 611) (by decide +kernel)), rfl⟩
theorem t_612 : (Jvm.Cond.instantiable "RangeSheet$AtMost" (4 : Nat)) ∈ TW := List.mem_filter.mpr ⟨List.mem_append_right _ (List.mem_of_getElem? (i := 612) (by decide +kernel)), rfl⟩
theorem t_613 : (Jvm.Cond.methodLink "RangeSheet" (109 : Nat) ({ cls := "RangeSheet$AtMost", name := "<init>", desc := "(III)V" } : Jvm.MethodName)) ∈ TW := List.mem_filter.mpr ⟨List.mem_append_right _ (List.mem_of_getElem? (i := 613) (by decide +kernel)), rfl⟩
theorem t_614 : (Jvm.Cond.instanceMethod ({ cls := "RangeSheet$AtMost", name := "<init>", desc := "(III)V" } : Jvm.MethodName)) ∈ TW := List.mem_filter.mpr ⟨List.mem_append_right _ (List.mem_of_getElem? (i := 614) (by decide +kernel)), rfl⟩
theorem t_615 : (Jvm.Cond.code ({ cls := "RangeSheet$AtMost", name := "<init>", desc := "(III)V" } : Jvm.MethodName) prog_2_method_1_code (4 : Nat) (Option.none : Option Jvm.ClassFile.FieldType)) ∈ TW := List.mem_filter.mpr ⟨List.mem_append_right _ (List.mem_of_getElem? (i := 615) (by decide +kernel)), rfl⟩
theorem t_616 : (Jvm.Cond.methodLinkNest "RangeSheet$AtMost" (1 : Nat) ({ cls := "RangeSheet$Relation", name := "<init>", desc := "()V" } : Jvm.MethodName) "RangeSheet") ∈ TW := List.mem_filter.mpr ⟨List.mem_append_right _ (List.mem_of_getElem? (i := 616) (by decide +kernel)), rfl⟩
theorem t_617 : (Jvm.Cond.fieldLink "RangeSheet$AtMost" (7 : Nat) "RangeSheet$AtMost" "a" "I") ∈ TW := List.mem_filter.mpr ⟨List.mem_append_right _ (List.mem_of_getElem? (i := 617) (by decide +kernel)), rfl⟩
theorem t_618 : (Jvm.Cond.fieldLink "RangeSheet$AtMost" (13 : Nat) "RangeSheet$AtMost" "b" "I") ∈ TW := List.mem_filter.mpr ⟨List.mem_append_right _ (List.mem_of_getElem? (i := 618) (by decide +kernel)), rfl⟩
theorem t_619 : (Jvm.Cond.fieldLink "RangeSheet$AtMost" (16 : Nat) "RangeSheet$AtMost" "n" "I") ∈ TW := List.mem_filter.mpr ⟨List.mem_append_right _ (List.mem_of_getElem? (i := 619) (by decide +kernel)), rfl⟩
theorem t_628 : (Jvm.Cond.classLink "RangeSheet" (110 : Nat) "RangeSheet$If") ∈ TW := List.mem_filter.mpr ⟨List.mem_append_right _ (List.mem_of_getElem? (i := 628) (by decide +kernel)), rfl⟩
theorem t_629 : (Jvm.Cond.instantiable "RangeSheet$If" (10 : Nat)) ∈ TW := List.mem_filter.mpr ⟨List.mem_append_right _ (List.mem_of_getElem? (i := 629) (by decide +kernel)), rfl⟩
theorem t_630 : (Jvm.Cond.methodLink "RangeSheet" (112 : Nat) ({ cls := "RangeSheet$If", name := "<init>", desc := "(III)V" } : Jvm.MethodName)) ∈ TW := List.mem_filter.mpr ⟨List.mem_append_right _ (List.mem_of_getElem? (i := 630) (by decide +kernel)), rfl⟩
theorem t_631 : (Jvm.Cond.instanceMethod ({ cls := "RangeSheet$If", name := "<init>", desc := "(III)V" } : Jvm.MethodName)) ∈ TW := List.mem_filter.mpr ⟨List.mem_append_right _ (List.mem_of_getElem? (i := 631) (by decide +kernel)), rfl⟩
theorem t_632 : (Jvm.Cond.code ({ cls := "RangeSheet$If", name := "<init>", desc := "(III)V" } : Jvm.MethodName) prog_6_method_1_code (4 : Nat) (Option.none : Option Jvm.ClassFile.FieldType)) ∈ TW := List.mem_filter.mpr ⟨List.mem_append_right _ (List.mem_of_getElem? (i := 632) (by decide +kernel)), rfl⟩
theorem t_633 : (Jvm.Cond.methodLink "RangeSheet$If" (1 : Nat) ({ cls := "RangeSheet$Three", name := "<init>", desc := "(III)V" } : Jvm.MethodName)) ∈ TW := List.mem_filter.mpr ⟨List.mem_append_right _ (List.mem_of_getElem? (i := 633) (by decide +kernel)), rfl⟩
theorem t_645 : (Jvm.Cond.classLink "RangeSheet" (113 : Nat) "RangeSheet$Different") ∈ TW := List.mem_filter.mpr ⟨List.mem_append_right _ (List.mem_of_getElem? (i := 645) (by decide +kernel)), rfl⟩
theorem t_646 : (Jvm.Cond.methodLink "RangeSheet" (115 : Nat) ({ cls := "RangeSheet$Different", name := "<init>", desc := "(I)V" } : Jvm.MethodName)) ∈ TW := List.mem_filter.mpr ⟨List.mem_append_right _ (List.mem_of_getElem? (i := 646) (by decide +kernel)), rfl⟩
theorem t_647 : (Jvm.Cond.instanceMethod ({ cls := "RangeSheet$Different", name := "<init>", desc := "(I)V" } : Jvm.MethodName)) ∈ TW := List.mem_filter.mpr ⟨List.mem_append_right _ (List.mem_of_getElem? (i := 647) (by decide +kernel)), rfl⟩
theorem t_648 : (Jvm.Cond.code ({ cls := "RangeSheet$Different", name := "<init>", desc := "(I)V" } : Jvm.MethodName) prog_4_method_1_code (2 : Nat) (Option.none : Option Jvm.ClassFile.FieldType)) ∈ TW := List.mem_filter.mpr ⟨List.mem_append_right _ (List.mem_of_getElem? (i := 648) (by decide +kernel)), rfl⟩
theorem t_649 : (Jvm.Cond.methodLinkNest "RangeSheet$Different" (3 : Nat) ({ cls := "RangeSheet$Relation", name := "<init>", desc := "()V" } : Jvm.MethodName) "RangeSheet") ∈ TW := List.mem_filter.mpr ⟨List.mem_append_right _ (List.mem_of_getElem? (i := 649) (by decide +kernel)), rfl⟩
theorem t_650 : (Jvm.Cond.fieldLink "RangeSheet$Different" (9 : Nat) "RangeSheet$Different" "cells" "I") ∈ TW := List.mem_filter.mpr ⟨List.mem_append_right _ (List.mem_of_getElem? (i := 650) (by decide +kernel)), rfl⟩
theorem t_655 : (Jvm.Cond.classLink "RangeSheet" (118 : Nat) "RangeSheet$Lookup") ∈ TW := List.mem_filter.mpr ⟨List.mem_append_right _ (List.mem_of_getElem? (i := 655) (by decide +kernel)), rfl⟩
theorem t_656 : (Jvm.Cond.methodLink "RangeSheet" (120 : Nat) ({ cls := "RangeSheet$Lookup", name := "<init>", desc := "(IILRangeSheet$Rows;)V" } : Jvm.MethodName)) ∈ TW := List.mem_filter.mpr ⟨List.mem_append_right _ (List.mem_of_getElem? (i := 656) (by decide +kernel)), rfl⟩
theorem t_657 : (Jvm.Cond.instanceMethod ({ cls := "RangeSheet$Lookup", name := "<init>", desc := "(IILRangeSheet$Rows;)V" } : Jvm.MethodName)) ∈ TW := List.mem_filter.mpr ⟨List.mem_append_right _ (List.mem_of_getElem? (i := 657) (by decide +kernel)), rfl⟩
theorem t_658 : (Jvm.Cond.code ({ cls := "RangeSheet$Lookup", name := "<init>", desc := "(IILRangeSheet$Rows;)V" } : Jvm.MethodName) prog_8_method_1_code (4 : Nat) (Option.none : Option Jvm.ClassFile.FieldType)) ∈ TW := List.mem_filter.mpr ⟨List.mem_append_right _ (List.mem_of_getElem? (i := 658) (by decide +kernel)), rfl⟩
theorem t_659 : (Jvm.Cond.methodLinkNest "RangeSheet$Lookup" (3 : Nat) ({ cls := "RangeSheet$Relation", name := "<init>", desc := "()V" } : Jvm.MethodName) "RangeSheet") ∈ TW := List.mem_filter.mpr ⟨List.mem_append_right _ (List.mem_of_getElem? (i := 659) (by decide +kernel)), rfl⟩
theorem t_660 : (Jvm.Cond.fieldLink "RangeSheet$Lookup" (9 : Nat) "RangeSheet$Lookup" "a" "I") ∈ TW := List.mem_filter.mpr ⟨List.mem_append_right _ (List.mem_of_getElem? (i := 660) (by decide +kernel)), rfl⟩
theorem t_661 : (Jvm.Cond.fieldLink "RangeSheet$Lookup" (15 : Nat) "RangeSheet$Lookup" "b" "I") ∈ TW := List.mem_filter.mpr ⟨List.mem_append_right _ (List.mem_of_getElem? (i := 661) (by decide +kernel)), rfl⟩
theorem t_662 : (Jvm.Cond.fieldLink "RangeSheet$Lookup" (18 : Nat) "RangeSheet$Lookup" "rows" "LRangeSheet$Rows;") ∈ TW := List.mem_filter.mpr ⟨List.mem_append_right _ (List.mem_of_getElem? (i := 662) (by decide +kernel)), rfl⟩
theorem t_671 : (Jvm.Cond.methodLink "RangeSheetLaw" (66 : Nat) ({ cls := "RangeSheetLaw", name := "set", desc := "(LRangeSheet;III[J)I" } : Jvm.MethodName)) ∈ TW := List.mem_filter.mpr ⟨List.mem_append_right _ (List.mem_of_getElem? (i := 671) (by decide +kernel)), rfl⟩
theorem t_672 : (Jvm.Cond.static ({ cls := "RangeSheetLaw", name := "set", desc := "(LRangeSheet;III[J)I" } : Jvm.MethodName)) ∈ TW := List.mem_filter.mpr ⟨List.mem_append_right _ (List.mem_of_getElem? (i := 672) (by decide +kernel)), rfl⟩
theorem t_673 : (Jvm.Cond.codeWith ({ cls := "RangeSheetLaw", name := "set", desc := "(LRangeSheet;III[J)I" } : Jvm.MethodName) method_5_code (6 : Nat) (Option.some Jvm.ClassFile.FieldType.int) [((0 : Nat), (12 : Nat), (15 : Nat), (13 : Nat)), ((0 : Nat), (12 : Nat), (19 : Nat), (15 : Nat))]) ∈ TW := List.mem_filter.mpr ⟨List.mem_append_right _ (List.mem_of_getElem? (i := 673) (by decide +kernel)), rfl⟩
theorem t_674 : (Jvm.Cond.methodLink "RangeSheetLaw" (21 : Nat) ({ cls := "RangeSheet", name := "set", desc := "(III)I" } : Jvm.MethodName)) ∈ TW := List.mem_filter.mpr ⟨List.mem_append_right _ (List.mem_of_getElem? (i := 674) (by decide +kernel)), rfl⟩
theorem t_675 : (Jvm.Cond.instanceMethod ({ cls := "RangeSheet", name := "set", desc := "(III)I" } : Jvm.MethodName)) ∈ TW := List.mem_filter.mpr ⟨List.mem_append_right _ (List.mem_of_getElem? (i := 675) (by decide +kernel)), rfl⟩
theorem t_676 : (Jvm.Cond.selects "RangeSheet" ({ cls := "RangeSheet", name := "set", desc := "(III)I" } : Jvm.MethodName) ({ cls := "RangeSheet", name := "set", desc := "(III)I" } : Jvm.MethodName)) ∈ TW := List.mem_filter.mpr ⟨List.mem_append_right _ (List.mem_of_getElem? (i := 676) (by decide +kernel)), rfl⟩
theorem t_677 : (Jvm.Cond.code ({ cls := "RangeSheet", name := "set", desc := "(III)I" } : Jvm.MethodName) prog_1_method_14_code (4 : Nat) (Option.some Jvm.ClassFile.FieldType.int)) ∈ TW := List.mem_filter.mpr ⟨List.mem_append_right _ (List.mem_of_getElem? (i := 677) (by decide +kernel)), rfl⟩
theorem t_678 : (Jvm.Cond.methodLink "RangeSheetLaw" (91 : Nat) ({ cls := "RangeSheetLaw", name := "because", desc := "(LRangeSheet;IZ[J)I" } : Jvm.MethodName)) ∈ TW := List.mem_filter.mpr ⟨List.mem_append_right _ (List.mem_of_getElem? (i := 678) (by decide +kernel)), rfl⟩
theorem t_679 : (Jvm.Cond.static ({ cls := "RangeSheetLaw", name := "because", desc := "(LRangeSheet;IZ[J)I" } : Jvm.MethodName)) ∈ TW := List.mem_filter.mpr ⟨List.mem_append_right _ (List.mem_of_getElem? (i := 679) (by decide +kernel)), rfl⟩
theorem t_680 : (Jvm.Cond.codeWith ({ cls := "RangeSheetLaw", name := "because", desc := "(LRangeSheet;IZ[J)I" } : Jvm.MethodName) method_6_code (5 : Nat) (Option.some Jvm.ClassFile.FieldType.int) [((0 : Nat), (10 : Nat), (13 : Nat), (13 : Nat))]) ∈ TW := List.mem_filter.mpr ⟨List.mem_append_right _ (List.mem_of_getElem? (i := 680) (by decide +kernel)), rfl⟩
theorem t_681 : (Jvm.Cond.methodLink "RangeSheetLaw" (25 : Nat) ({ cls := "RangeSheet", name := "because", desc := "(IZ)I" } : Jvm.MethodName)) ∈ TW := List.mem_filter.mpr ⟨List.mem_append_right _ (List.mem_of_getElem? (i := 681) (by decide +kernel)), rfl⟩
theorem t_682 : (Jvm.Cond.instanceMethod ({ cls := "RangeSheet", name := "because", desc := "(IZ)I" } : Jvm.MethodName)) ∈ TW := List.mem_filter.mpr ⟨List.mem_append_right _ (List.mem_of_getElem? (i := 682) (by decide +kernel)), rfl⟩
theorem t_683 : (Jvm.Cond.selects "RangeSheet" ({ cls := "RangeSheet", name := "because", desc := "(IZ)I" } : Jvm.MethodName) ({ cls := "RangeSheet", name := "because", desc := "(IZ)I" } : Jvm.MethodName)) ∈ TW := List.mem_filter.mpr ⟨List.mem_append_right _ (List.mem_of_getElem? (i := 683) (by decide +kernel)), rfl⟩
theorem t_684 : (Jvm.Cond.code ({ cls := "RangeSheet", name := "because", desc := "(IZ)I" } : Jvm.MethodName) prog_1_method_23_code (7 : Nat) (Option.some Jvm.ClassFile.FieldType.int)) ∈ TW := List.mem_filter.mpr ⟨List.mem_append_right _ (List.mem_of_getElem? (i := 684) (by decide +kernel)), rfl⟩
theorem t_685 : (Jvm.Cond.methodLink "RangeSheet" (176 : Nat) ({ cls := "RangeSheet", name := "bound", desc := "(IZ)I" } : Jvm.MethodName)) ∈ TW := List.mem_filter.mpr ⟨List.mem_append_right _ (List.mem_of_getElem? (i := 685) (by decide +kernel)), rfl⟩
theorem t_687 : (Jvm.Cond.instanceMethod ({ cls := "RangeSheet", name := "bound", desc := "(IZ)I" } : Jvm.MethodName)) ∈ TW := List.mem_filter.mpr ⟨List.mem_append_right _ (List.mem_of_getElem? (i := 687) (by decide +kernel)), rfl⟩
theorem t_688 : (Jvm.Cond.code ({ cls := "RangeSheet", name := "bound", desc := "(IZ)I" } : Jvm.MethodName) prog_1_method_22_code (3 : Nat) (Option.some Jvm.ClassFile.FieldType.int)) ∈ TW := List.mem_filter.mpr ⟨List.mem_append_right _ (List.mem_of_getElem? (i := 688) (by decide +kernel)), rfl⟩
theorem t_689 : (Jvm.Cond.methodLink "RangeSheetLaw" (95 : Nat) ({ cls := "RangeSheetLaw", name := "solve", desc := "(LRangeSheet;I[J)I" } : Jvm.MethodName)) ∈ TW := List.mem_filter.mpr ⟨List.mem_append_right _ (List.mem_of_getElem? (i := 689) (by decide +kernel)), rfl⟩
theorem t_690 : (Jvm.Cond.static ({ cls := "RangeSheetLaw", name := "solve", desc := "(LRangeSheet;I[J)I" } : Jvm.MethodName)) ∈ TW := List.mem_filter.mpr ⟨List.mem_append_right _ (List.mem_of_getElem? (i := 690) (by decide +kernel)), rfl⟩
theorem t_691 : (Jvm.Cond.codeWith ({ cls := "RangeSheetLaw", name := "solve", desc := "(LRangeSheet;I[J)I" } : Jvm.MethodName) method_7_code (4 : Nat) (Option.some Jvm.ClassFile.FieldType.int) [((0 : Nat), (9 : Nat), (12 : Nat), (13 : Nat))]) ∈ TW := List.mem_filter.mpr ⟨List.mem_append_right _ (List.mem_of_getElem? (i := 691) (by decide +kernel)), rfl⟩
theorem t_692 : (Jvm.Cond.methodLink "RangeSheetLaw" (29 : Nat) ({ cls := "RangeSheet", name := "solve", desc := "(I)I" } : Jvm.MethodName)) ∈ TW := List.mem_filter.mpr ⟨List.mem_append_right _ (List.mem_of_getElem? (i := 692) (by decide +kernel)), rfl⟩
theorem t_693 : (Jvm.Cond.instanceMethod ({ cls := "RangeSheet", name := "solve", desc := "(I)I" } : Jvm.MethodName)) ∈ TW := List.mem_filter.mpr ⟨List.mem_append_right _ (List.mem_of_getElem? (i := 693) (by decide +kernel)), rfl⟩
theorem t_694 : (Jvm.Cond.selects "RangeSheet" ({ cls := "RangeSheet", name := "solve", desc := "(I)I" } : Jvm.MethodName) ({ cls := "RangeSheet", name := "solve", desc := "(I)I" } : Jvm.MethodName)) ∈ TW := List.mem_filter.mpr ⟨List.mem_append_right _ (List.mem_of_getElem? (i := 694) (by decide +kernel)), rfl⟩
theorem t_695 : (Jvm.Cond.code ({ cls := "RangeSheet", name := "solve", desc := "(I)I" } : Jvm.MethodName) prog_1_method_27_code (2 : Nat) (Option.some Jvm.ClassFile.FieldType.int)) ∈ TW := List.mem_filter.mpr ⟨List.mem_append_right _ (List.mem_of_getElem? (i := 695) (by decide +kernel)), rfl⟩
theorem t_696 : (Jvm.Cond.methodLink "RangeSheet" (212 : Nat) ({ cls := "RangeSheet", name := "begin", desc := "(IZI)I" } : Jvm.MethodName)) ∈ TW := List.mem_filter.mpr ⟨List.mem_append_right _ (List.mem_of_getElem? (i := 696) (by decide +kernel)), rfl⟩
theorem t_698 : (Jvm.Cond.instanceMethod ({ cls := "RangeSheet", name := "begin", desc := "(IZI)I" } : Jvm.MethodName)) ∈ TW := List.mem_filter.mpr ⟨List.mem_append_right _ (List.mem_of_getElem? (i := 698) (by decide +kernel)), rfl⟩
theorem t_699 : (Jvm.Cond.code ({ cls := "RangeSheet", name := "begin", desc := "(IZI)I" } : Jvm.MethodName) prog_1_method_26_code (4 : Nat) (Option.some Jvm.ClassFile.FieldType.int)) ∈ TW := List.mem_filter.mpr ⟨List.mem_append_right _ (List.mem_of_getElem? (i := 699) (by decide +kernel)), rfl⟩
theorem t_700 : (Jvm.Cond.methodLink "RangeSheet" (208 : Nat) ({ cls := "RangeSheet", name := "search", desc := "(I)I" } : Jvm.MethodName)) ∈ TW := List.mem_filter.mpr ⟨List.mem_append_right _ (List.mem_of_getElem? (i := 700) (by decide +kernel)), rfl⟩
theorem t_702 : (Jvm.Cond.instanceMethod ({ cls := "RangeSheet", name := "search", desc := "(I)I" } : Jvm.MethodName)) ∈ TW := List.mem_filter.mpr ⟨List.mem_append_right _ (List.mem_of_getElem? (i := 702) (by decide +kernel)), rfl⟩
theorem t_703 : (Jvm.Cond.code ({ cls := "RangeSheet", name := "search", desc := "(I)I" } : Jvm.MethodName) prog_1_method_25_code (9 : Nat) (Option.some Jvm.ClassFile.FieldType.int)) ∈ TW := List.mem_filter.mpr ⟨List.mem_append_right _ (List.mem_of_getElem? (i := 703) (by decide +kernel)), rfl⟩
theorem t_704 : (Jvm.Cond.methodLink "RangeSheet" (186 : Nat) ({ cls := "RangeSheet", name := "open", desc := "(LRangeSheet$Box;)I" } : Jvm.MethodName)) ∈ TW := List.mem_filter.mpr ⟨List.mem_append_right _ (List.mem_of_getElem? (i := 704) (by decide +kernel)), rfl⟩
theorem t_706 : (Jvm.Cond.instanceMethod ({ cls := "RangeSheet", name := "open", desc := "(LRangeSheet$Box;)I" } : Jvm.MethodName)) ∈ TW := List.mem_filter.mpr ⟨List.mem_append_right _ (List.mem_of_getElem? (i := 706) (by decide +kernel)), rfl⟩
theorem t_707 : (Jvm.Cond.code ({ cls := "RangeSheet", name := "open", desc := "(LRangeSheet$Box;)I" } : Jvm.MethodName) prog_1_method_24_code (3 : Nat) (Option.some Jvm.ClassFile.FieldType.int)) ∈ TW := List.mem_filter.mpr ⟨List.mem_append_right _ (List.mem_of_getElem? (i := 707) (by decide +kernel)), rfl⟩
theorem t_708 : (Jvm.Cond.methodLink "RangeSheet" (183 : Nat) ({ cls := "RangeSheet$Box", name := "isFixed", desc := "(I)Z" } : Jvm.MethodName)) ∈ TW := List.mem_filter.mpr ⟨List.mem_append_right _ (List.mem_of_getElem? (i := 708) (by decide +kernel)), rfl⟩
theorem t_709 : (Jvm.Cond.instanceMethod ({ cls := "RangeSheet$Box", name := "isFixed", desc := "(I)Z" } : Jvm.MethodName)) ∈ TW := List.mem_filter.mpr ⟨List.mem_append_right _ (List.mem_of_getElem? (i := 709) (by decide +kernel)), rfl⟩
theorem t_710 : (Jvm.Cond.selects "RangeSheet$Box" ({ cls := "RangeSheet$Box", name := "isFixed", desc := "(I)Z" } : Jvm.MethodName) ({ cls := "RangeSheet$Box", name := "isFixed", desc := "(I)Z" } : Jvm.MethodName)) ∈ TW := List.mem_filter.mpr ⟨List.mem_append_right _ (List.mem_of_getElem? (i := 710) (by decide +kernel)), rfl⟩
theorem t_711 : (Jvm.Cond.code ({ cls := "RangeSheet$Box", name := "isFixed", desc := "(I)Z" } : Jvm.MethodName) prog_3_method_4_code (2 : Nat) (Option.some Jvm.ClassFile.FieldType.boolean)) ∈ TW := List.mem_filter.mpr ⟨List.mem_append_right _ (List.mem_of_getElem? (i := 711) (by decide +kernel)), rfl⟩
theorem t_712 : (Jvm.Cond.methodLink "RangeSheet" (190 : Nat) ({ cls := "java/lang/System", name := "arraycopy", desc := "(Ljava/lang/Object;ILjava/lang/Object;II)V" } : Jvm.MethodName)) ∈ TW := List.mem_filter.mpr ⟨List.mem_append_right _ (List.mem_of_getElem? (i := 712) (by decide +kernel)), rfl⟩
theorem t_713 : (Jvm.Cond.methodLink "RangeSheetLaw" (99 : Nat) ({ cls := "RangeSheetLaw", name := "least", desc := "(LRangeSheet;II[J)I" } : Jvm.MethodName)) ∈ TW := List.mem_filter.mpr ⟨List.mem_append_right _ (List.mem_of_getElem? (i := 713) (by decide +kernel)), rfl⟩
theorem t_714 : (Jvm.Cond.static ({ cls := "RangeSheetLaw", name := "least", desc := "(LRangeSheet;II[J)I" } : Jvm.MethodName)) ∈ TW := List.mem_filter.mpr ⟨List.mem_append_right _ (List.mem_of_getElem? (i := 714) (by decide +kernel)), rfl⟩
theorem t_715 : (Jvm.Cond.codeWith ({ cls := "RangeSheetLaw", name := "least", desc := "(LRangeSheet;II[J)I" } : Jvm.MethodName) method_8_code (5 : Nat) (Option.some Jvm.ClassFile.FieldType.int) [((0 : Nat), (10 : Nat), (13 : Nat), (13 : Nat))]) ∈ TW := List.mem_filter.mpr ⟨List.mem_append_right _ (List.mem_of_getElem? (i := 715) (by decide +kernel)), rfl⟩
theorem t_716 : (Jvm.Cond.methodLink "RangeSheetLaw" (33 : Nat) ({ cls := "RangeSheet", name := "least", desc := "(II)I" } : Jvm.MethodName)) ∈ TW := List.mem_filter.mpr ⟨List.mem_append_right _ (List.mem_of_getElem? (i := 716) (by decide +kernel)), rfl⟩
theorem t_717 : (Jvm.Cond.instanceMethod ({ cls := "RangeSheet", name := "least", desc := "(II)I" } : Jvm.MethodName)) ∈ TW := List.mem_filter.mpr ⟨List.mem_append_right _ (List.mem_of_getElem? (i := 717) (by decide +kernel)), rfl⟩
theorem t_718 : (Jvm.Cond.selects "RangeSheet" ({ cls := "RangeSheet", name := "least", desc := "(II)I" } : Jvm.MethodName) ({ cls := "RangeSheet", name := "least", desc := "(II)I" } : Jvm.MethodName)) ∈ TW := List.mem_filter.mpr ⟨List.mem_append_right _ (List.mem_of_getElem? (i := 718) (by decide +kernel)), rfl⟩
theorem t_719 : (Jvm.Cond.code ({ cls := "RangeSheet", name := "least", desc := "(II)I" } : Jvm.MethodName) prog_1_method_29_code (3 : Nat) (Option.some Jvm.ClassFile.FieldType.int)) ∈ TW := List.mem_filter.mpr ⟨List.mem_append_right _ (List.mem_of_getElem? (i := 719) (by decide +kernel)), rfl⟩
theorem t_720 : (Jvm.Cond.methodLink "RangeSheet" (216 : Nat) ({ cls := "RangeSheet", name := "extreme", desc := "(IZI)I" } : Jvm.MethodName)) ∈ TW := List.mem_filter.mpr ⟨List.mem_append_right _ (List.mem_of_getElem? (i := 720) (by decide +kernel)), rfl⟩
theorem t_722 : (Jvm.Cond.instanceMethod ({ cls := "RangeSheet", name := "extreme", desc := "(IZI)I" } : Jvm.MethodName)) ∈ TW := List.mem_filter.mpr ⟨List.mem_append_right _ (List.mem_of_getElem? (i := 722) (by decide +kernel)), rfl⟩
theorem t_723 : (Jvm.Cond.code ({ cls := "RangeSheet", name := "extreme", desc := "(IZI)I" } : Jvm.MethodName) prog_1_method_28_code (4 : Nat) (Option.some Jvm.ClassFile.FieldType.int)) ∈ TW := List.mem_filter.mpr ⟨List.mem_append_right _ (List.mem_of_getElem? (i := 723) (by decide +kernel)), rfl⟩
theorem t_724 : (Jvm.Cond.methodLink "RangeSheetLaw" (102 : Nat) ({ cls := "RangeSheetLaw", name := "greatest", desc := "(LRangeSheet;II[J)I" } : Jvm.MethodName)) ∈ TW := List.mem_filter.mpr ⟨List.mem_append_right _ (List.mem_of_getElem? (i := 724) (by decide +kernel)), rfl⟩
theorem t_725 : (Jvm.Cond.static ({ cls := "RangeSheetLaw", name := "greatest", desc := "(LRangeSheet;II[J)I" } : Jvm.MethodName)) ∈ TW := List.mem_filter.mpr ⟨List.mem_append_right _ (List.mem_of_getElem? (i := 725) (by decide +kernel)), rfl⟩
theorem t_726 : (Jvm.Cond.codeWith ({ cls := "RangeSheetLaw", name := "greatest", desc := "(LRangeSheet;II[J)I" } : Jvm.MethodName) method_9_code (5 : Nat) (Option.some Jvm.ClassFile.FieldType.int) [((0 : Nat), (10 : Nat), (13 : Nat), (13 : Nat))]) ∈ TW := List.mem_filter.mpr ⟨List.mem_append_right _ (List.mem_of_getElem? (i := 726) (by decide +kernel)), rfl⟩
theorem t_727 : (Jvm.Cond.methodLink "RangeSheetLaw" (36 : Nat) ({ cls := "RangeSheet", name := "greatest", desc := "(II)I" } : Jvm.MethodName)) ∈ TW := List.mem_filter.mpr ⟨List.mem_append_right _ (List.mem_of_getElem? (i := 727) (by decide +kernel)), rfl⟩
theorem t_728 : (Jvm.Cond.instanceMethod ({ cls := "RangeSheet", name := "greatest", desc := "(II)I" } : Jvm.MethodName)) ∈ TW := List.mem_filter.mpr ⟨List.mem_append_right _ (List.mem_of_getElem? (i := 728) (by decide +kernel)), rfl⟩
theorem t_729 : (Jvm.Cond.selects "RangeSheet" ({ cls := "RangeSheet", name := "greatest", desc := "(II)I" } : Jvm.MethodName) ({ cls := "RangeSheet", name := "greatest", desc := "(II)I" } : Jvm.MethodName)) ∈ TW := List.mem_filter.mpr ⟨List.mem_append_right _ (List.mem_of_getElem? (i := 729) (by decide +kernel)), rfl⟩
theorem t_730 : (Jvm.Cond.code ({ cls := "RangeSheet", name := "greatest", desc := "(II)I" } : Jvm.MethodName) prog_1_method_30_code (3 : Nat) (Option.some Jvm.ClassFile.FieldType.int)) ∈ TW := List.mem_filter.mpr ⟨List.mem_append_right _ (List.mem_of_getElem? (i := 730) (by decide +kernel)), rfl⟩
theorem t_731 : (Jvm.Cond.classLink "RangeSheetLaw" (40 : Nat) "RangeSheetModel") ∈ TW := List.mem_filter.mpr ⟨List.mem_append_right _ (List.mem_of_getElem? (i := 731) (by decide +kernel)), rfl⟩
theorem t_732 : (Jvm.Cond.instantiable "RangeSheetModel" (36 : Nat)) ∈ TW := List.mem_filter.mpr ⟨List.mem_append_right _ (List.mem_of_getElem? (i := 732) (by decide +kernel)), rfl⟩
theorem t_733 : (Jvm.Cond.methodLink "RangeSheetLaw" (42 : Nat) ({ cls := "RangeSheetModel", name := "<init>", desc := "()V" } : Jvm.MethodName)) ∈ TW := List.mem_filter.mpr ⟨List.mem_append_right _ (List.mem_of_getElem? (i := 733) (by decide +kernel)), rfl⟩
theorem t_734 : (Jvm.Cond.instanceMethod ({ cls := "RangeSheetModel", name := "<init>", desc := "()V" } : Jvm.MethodName)) ∈ TW := List.mem_filter.mpr ⟨List.mem_append_right _ (List.mem_of_getElem? (i := 734) (by decide +kernel)), rfl⟩
theorem t_735 : (Jvm.Cond.code ({ cls := "RangeSheetModel", name := "<init>", desc := "()V" } : Jvm.MethodName) prog_16_method_1_code (1 : Nat) (Option.none : Option Jvm.ClassFile.FieldType)) ∈ TW := List.mem_filter.mpr ⟨List.mem_append_right _ (List.mem_of_getElem? (i := 735) (by decide +kernel)), rfl⟩
theorem t_736 : (Jvm.Cond.methodLink "RangeSheetModel" (1 : Nat) ({ cls := "java/lang/Object", name := "<init>", desc := "()V" } : Jvm.MethodName)) ∈ TW := List.mem_filter.mpr ⟨List.mem_append_right _ (List.mem_of_getElem? (i := 736) (by decide +kernel)), rfl⟩
theorem t_737 : (Jvm.Cond.fieldLink "RangeSheetModel" (74 : Nat) "RangeSheetModel" "thrown" "I") ∈ TW := List.mem_filter.mpr ⟨List.mem_append_right _ (List.mem_of_getElem? (i := 737) (by decide +kernel)), rfl⟩
theorem t_738 : (Jvm.Cond.fieldLink "RangeSheetModel" (86 : Nat) "RangeSheetModel" "cells" "I") ∈ TW := List.mem_filter.mpr ⟨List.mem_append_right _ (List.mem_of_getElem? (i := 738) (by decide +kernel)), rfl⟩
theorem t_739 : (Jvm.Cond.fieldLink "RangeSheetModel" (7 : Nat) "RangeSheetModel" "firstLow" "[I") ∈ TW := List.mem_filter.mpr ⟨List.mem_append_right _ (List.mem_of_getElem? (i := 739) (by decide +kernel)), rfl⟩
theorem t_740 : (Jvm.Cond.fieldLink "RangeSheetModel" (13 : Nat) "RangeSheetModel" "firstHigh" "[I") ∈ TW := List.mem_filter.mpr ⟨List.mem_append_right _ (List.mem_of_getElem? (i := 740) (by decide +kernel)), rfl⟩
theorem t_741 : (Jvm.Cond.fieldLink "RangeSheetModel" (104 : Nat) "RangeSheetModel" "relations" "I") ∈ TW := List.mem_filter.mpr ⟨List.mem_append_right _ (List.mem_of_getElem? (i := 741) (by decide +kernel)), rfl⟩
theorem t_742 : (Jvm.Cond.fieldLink "RangeSheetModel" (16 : Nat) "RangeSheetModel" "kind" "[I") ∈ TW := List.mem_filter.mpr ⟨List.mem_append_right _ (List.mem_of_getElem? (i := 742) (by decide +kernel)), rfl⟩
theorem t_743 : (Jvm.Cond.fieldLink "RangeSheetModel" (19 : Nat) "RangeSheetModel" "one" "[I") ∈ TW := List.mem_filter.mpr ⟨List.mem_append_right _ (List.mem_of_getElem? (i := 743) (by decide +kernel)), rfl⟩
theorem t_744 : (Jvm.Cond.fieldLink "RangeSheetModel" (22 : Nat) "RangeSheetModel" "two" "[I") ∈ TW := List.mem_filter.mpr ⟨List.mem_append_right _ (List.mem_of_getElem? (i := 744) (by decide +kernel)), rfl⟩
theorem t_745 : (Jvm.Cond.fieldLink "RangeSheetModel" (25 : Nat) "RangeSheetModel" "three" "[I") ∈ TW := List.mem_filter.mpr ⟨List.mem_append_right _ (List.mem_of_getElem? (i := 745) (by decide +kernel)), rfl⟩
theorem t_746 : (Jvm.Cond.fieldLink "RangeSheetModel" (28 : Nat) "RangeSheetModel" "good" "[Z") ∈ TW := List.mem_filter.mpr ⟨List.mem_append_right _ (List.mem_of_getElem? (i := 746) (by decide +kernel)), rfl⟩
theorem t_747 : (Jvm.Cond.fieldLink "RangeSheetModel" (32 : Nat) "RangeSheetModel" "rows" "[I") ∈ TW := List.mem_filter.mpr ⟨List.mem_append_right _ (List.mem_of_getElem? (i := 747) (by decide +kernel)), rfl⟩
theorem t_748 : (Jvm.Cond.fieldLink "RangeSheetModel" (35 : Nat) "RangeSheetModel" "rowX" "[I") ∈ TW := List.mem_filter.mpr ⟨List.mem_append_right _ (List.mem_of_getElem? (i := 748) (by decide +kernel)), rfl⟩
theorem t_749 : (Jvm.Cond.fieldLink "RangeSheetModel" (38 : Nat) "RangeSheetModel" "rowY" "[I") ∈ TW := List.mem_filter.mpr ⟨List.mem_append_right _ (List.mem_of_getElem? (i := 749) (by decide +kernel)), rfl⟩
theorem t_750 : (Jvm.Cond.fieldLink "RangeSheetModel" (107 : Nat) "RangeSheetModel" "entries" "I") ∈ TW := List.mem_filter.mpr ⟨List.mem_append_right _ (List.mem_of_getElem? (i := 750) (by decide +kernel)), rfl⟩
theorem t_751 : (Jvm.Cond.fieldLink "RangeSheetModel" (41 : Nat) "RangeSheetModel" "entryCell" "[I") ∈ TW := List.mem_filter.mpr ⟨List.mem_append_right _ (List.mem_of_getElem? (i := 751) (by decide +kernel)), rfl⟩
theorem t_752 : (Jvm.Cond.fieldLink "RangeSheetModel" (44 : Nat) "RangeSheetModel" "entryLow" "[I") ∈ TW := List.mem_filter.mpr ⟨List.mem_append_right _ (List.mem_of_getElem? (i := 752) (by decide +kernel)), rfl⟩
theorem t_753 : (Jvm.Cond.fieldLink "RangeSheetModel" (47 : Nat) "RangeSheetModel" "entryHigh" "[I") ∈ TW := List.mem_filter.mpr ⟨List.mem_append_right _ (List.mem_of_getElem? (i := 753) (by decide +kernel)), rfl⟩
theorem t_754 : (Jvm.Cond.fieldLink "RangeSheetModel" (110 : Nat) "RangeSheetModel" "forced" "I") ∈ TW := List.mem_filter.mpr ⟨List.mem_append_right _ (List.mem_of_getElem? (i := 754) (by decide +kernel)), rfl⟩
theorem t_755 : (Jvm.Cond.fieldLink "RangeSheetModel" (50 : Nat) "RangeSheetModel" "low" "[I") ∈ TW := List.mem_filter.mpr ⟨List.mem_append_right _ (List.mem_of_getElem? (i := 755) (by decide +kernel)), rfl⟩
theorem t_756 : (Jvm.Cond.fieldLink "RangeSheetModel" (53 : Nat) "RangeSheetModel" "high" "[I") ∈ TW := List.mem_filter.mpr ⟨List.mem_append_right _ (List.mem_of_getElem? (i := 756) (by decide +kernel)), rfl⟩
theorem t_757 : (Jvm.Cond.fieldLink "RangeSheetModel" (116 : Nat) "RangeSheetModel" "changed" "Z") ∈ TW := List.mem_filter.mpr ⟨List.mem_append_right _ (List.mem_of_getElem? (i := 757) (by decide +kernel)), rfl⟩
theorem t_758 : (Jvm.Cond.fieldLink "RangeSheetModel" (127 : Nat) "RangeSheetModel" "lowA" "I") ∈ TW := List.mem_filter.mpr ⟨List.mem_append_right _ (List.mem_of_getElem? (i := 758) (by decide +kernel)), rfl⟩
theorem t_759 : (Jvm.Cond.fieldLink "RangeSheetModel" (136 : Nat) "RangeSheetModel" "highA" "I") ∈ TW := List.mem_filter.mpr ⟨List.mem_append_right _ (List.mem_of_getElem? (i := 759) (by decide +kernel)), rfl⟩
theorem t_760 : (Jvm.Cond.fieldLink "RangeSheetModel" (130 : Nat) "RangeSheetModel" "lowB" "I") ∈ TW := List.mem_filter.mpr ⟨List.mem_append_right _ (List.mem_of_getElem? (i := 760) (by decide +kernel)), rfl⟩
theorem t_761 : (Jvm.Cond.fieldLink "RangeSheetModel" (139 : Nat) "RangeSheetModel" "highB" "I") ∈ TW := List.mem_filter.mpr ⟨List.mem_append_right _ (List.mem_of_getElem? (i := 761) (by decide +kernel)), rfl⟩
theorem t_762 : (Jvm.Cond.fieldLink "RangeSheetModel" (133 : Nat) "RangeSheetModel" "lowC" "I") ∈ TW := List.mem_filter.mpr ⟨List.mem_append_right _ (List.mem_of_getElem? (i := 762) (by decide +kernel)), rfl⟩
theorem t_763 : (Jvm.Cond.fieldLink "RangeSheetModel" (142 : Nat) "RangeSheetModel" "highC" "I") ∈ TW := List.mem_filter.mpr ⟨List.mem_append_right _ (List.mem_of_getElem? (i := 763) (by decide +kernel)), rfl⟩
theorem t_764 : (Jvm.Cond.fieldLink "RangeSheetModel" (56 : Nat) "RangeSheetModel" "seated" "[Z") ∈ TW := List.mem_filter.mpr ⟨List.mem_append_right _ (List.mem_of_getElem? (i := 764) (by decide +kernel)), rfl⟩
theorem t_765 : (Jvm.Cond.fieldLink "RangeSheetModel" (211 : Nat) "RangeSheetModel" "told" "I") ∈ TW := List.mem_filter.mpr ⟨List.mem_append_right _ (List.mem_of_getElem? (i := 765) (by decide +kernel)), rfl⟩
theorem t_766 : (Jvm.Cond.fieldLink "RangeSheetModel" (59 : Nat) "RangeSheetModel" "toldLow" "[I") ∈ TW := List.mem_filter.mpr ⟨List.mem_append_right _ (List.mem_of_getElem? (i := 766) (by decide +kernel)), rfl⟩
theorem t_767 : (Jvm.Cond.fieldLink "RangeSheetModel" (62 : Nat) "RangeSheetModel" "toldHigh" "[I") ∈ TW := List.mem_filter.mpr ⟨List.mem_append_right _ (List.mem_of_getElem? (i := 767) (by decide +kernel)), rfl⟩
theorem t_768 : (Jvm.Cond.fieldLink "RangeSheetModel" (217 : Nat) "RangeSheetModel" "steps" "I") ∈ TW := List.mem_filter.mpr ⟨List.mem_append_right _ (List.mem_of_getElem? (i := 768) (by decide +kernel)), rfl⟩
theorem t_769 : (Jvm.Cond.fieldLink "RangeSheetModel" (214 : Nat) "RangeSheetModel" "settled" "I") ∈ TW := List.mem_filter.mpr ⟨List.mem_append_right _ (List.mem_of_getElem? (i := 769) (by decide +kernel)), rfl⟩
theorem t_770 : (Jvm.Cond.fieldLink "RangeSheetModel" (65 : Nat) "RangeSheetModel" "setting" "[I") ∈ TW := List.mem_filter.mpr ⟨List.mem_append_right _ (List.mem_of_getElem? (i := 770) (by decide +kernel)), rfl⟩
theorem t_771 : (Jvm.Cond.fieldLink "RangeSheetModel" (68 : Nat) "RangeSheetModel" "tried" "[I") ∈ TW := List.mem_filter.mpr ⟨List.mem_append_right _ (List.mem_of_getElem? (i := 771) (by decide +kernel)), rfl⟩
theorem t_772 : (Jvm.Cond.fieldLink "RangeSheetModel" (71 : Nat) "RangeSheetModel" "tries" "[I") ∈ TW := List.mem_filter.mpr ⟨List.mem_append_right _ (List.mem_of_getElem? (i := 772) (by decide +kernel)), rfl⟩
theorem t_846 : (Jvm.Cond.arrayClass Jvm.ClassFile.FieldType.boolean) ∈ TW := List.mem_filter.mpr ⟨List.mem_append_right _ (List.mem_of_getElem? (i := 846) (by decide +kernel)), rfl⟩
theorem t_847 : (Jvm.Cond.methodLink "RangeSheetLaw" (49 : Nat) ({ cls := "RangeSheetModel", name := "thrown", desc := "()I" } : Jvm.MethodName)) ∈ TW := List.mem_filter.mpr ⟨List.mem_append_right _ (List.mem_of_getElem? (i := 847) (by decide +kernel)), rfl⟩
theorem t_848 : (Jvm.Cond.instanceMethod ({ cls := "RangeSheetModel", name := "thrown", desc := "()I" } : Jvm.MethodName)) ∈ TW := List.mem_filter.mpr ⟨List.mem_append_right _ (List.mem_of_getElem? (i := 848) (by decide +kernel)), rfl⟩
theorem t_849 : (Jvm.Cond.selects "RangeSheetModel" ({ cls := "RangeSheetModel", name := "thrown", desc := "()I" } : Jvm.MethodName) ({ cls := "RangeSheetModel", name := "thrown", desc := "()I" } : Jvm.MethodName)) ∈ TW := List.mem_filter.mpr ⟨List.mem_append_right _ (List.mem_of_getElem? (i := 849) (by decide +kernel)), rfl⟩
theorem t_850 : (Jvm.Cond.code ({ cls := "RangeSheetModel", name := "thrown", desc := "()I" } : Jvm.MethodName) prog_16_method_2_code (1 : Nat) (Option.some Jvm.ClassFile.FieldType.int)) ∈ TW := List.mem_filter.mpr ⟨List.mem_append_right _ (List.mem_of_getElem? (i := 850) (by decide +kernel)), rfl⟩
theorem t_851 : (Jvm.Cond.methodLink "RangeSheetLaw" (48 : Nat) ({ cls := "RangeSheetModel", name := "cell", desc := "(II)I" } : Jvm.MethodName)) ∈ TW := List.mem_filter.mpr ⟨List.mem_append_right _ (List.mem_of_getElem? (i := 851) (by decide +kernel)), rfl⟩
theorem t_852 : (Jvm.Cond.instanceMethod ({ cls := "RangeSheetModel", name := "cell", desc := "(II)I" } : Jvm.MethodName)) ∈ TW := List.mem_filter.mpr ⟨List.mem_append_right _ (List.mem_of_getElem? (i := 852) (by decide +kernel)), rfl⟩
theorem t_853 : (Jvm.Cond.selects "RangeSheetModel" ({ cls := "RangeSheetModel", name := "cell", desc := "(II)I" } : Jvm.MethodName) ({ cls := "RangeSheetModel", name := "cell", desc := "(II)I" } : Jvm.MethodName)) ∈ TW := List.mem_filter.mpr ⟨List.mem_append_right _ (List.mem_of_getElem? (i := 853) (by decide +kernel)), rfl⟩
theorem t_854 : (Jvm.Cond.code ({ cls := "RangeSheetModel", name := "cell", desc := "(II)I" } : Jvm.MethodName) prog_16_method_8_code (3 : Nat) (Option.some Jvm.ClassFile.FieldType.int)) ∈ TW := List.mem_filter.mpr ⟨List.mem_append_right _ (List.mem_of_getElem? (i := 854) (by decide +kernel)), rfl⟩
theorem t_855 : (Jvm.Cond.methodLink "RangeSheetModel" (78 : Nat) ({ cls := "RangeSheetModel", name := "isRange", desc := "(II)Z" } : Jvm.MethodName)) ∈ TW := List.mem_filter.mpr ⟨List.mem_append_right _ (List.mem_of_getElem? (i := 855) (by decide +kernel)), rfl⟩
theorem t_856 : (Jvm.Cond.static ({ cls := "RangeSheetModel", name := "isRange", desc := "(II)Z" } : Jvm.MethodName)) ∈ TW := List.mem_filter.mpr ⟨List.mem_append_right _ (List.mem_of_getElem? (i := 856) (by decide +kernel)), rfl⟩
theorem t_857 : (Jvm.Cond.code ({ cls := "RangeSheetModel", name := "isRange", desc := "(II)Z" } : Jvm.MethodName) prog_16_method_7_code (2 : Nat) (Option.some Jvm.ClassFile.FieldType.boolean)) ∈ TW := List.mem_filter.mpr ⟨List.mem_append_right _ (List.mem_of_getElem? (i := 857) (by decide +kernel)), rfl⟩
theorem t_858 : (Jvm.Cond.methodLink "RangeSheetModel" (82 : Nat) ({ cls := "RangeSheetModel", name := "refuse", desc := "(I)I" } : Jvm.MethodName)) ∈ TW := List.mem_filter.mpr ⟨List.mem_append_right _ (List.mem_of_getElem? (i := 858) (by decide +kernel)), rfl⟩
theorem t_860 : (Jvm.Cond.instanceMethod ({ cls := "RangeSheetModel", name := "refuse", desc := "(I)I" } : Jvm.MethodName)) ∈ TW := List.mem_filter.mpr ⟨List.mem_append_right _ (List.mem_of_getElem? (i := 860) (by decide +kernel)), rfl⟩
theorem t_861 : (Jvm.Cond.code ({ cls := "RangeSheetModel", name := "refuse", desc := "(I)I" } : Jvm.MethodName) prog_16_method_3_code (2 : Nat) (Option.some Jvm.ClassFile.FieldType.int)) ∈ TW := List.mem_filter.mpr ⟨List.mem_append_right _ (List.mem_of_getElem? (i := 861) (by decide +kernel)), rfl⟩
theorem t_862 : (Jvm.Cond.methodLink "RangeSheetLaw" (56 : Nat) ({ cls := "RangeSheetModel", name := "relate", desc := "(IIII)I" } : Jvm.MethodName)) ∈ TW := List.mem_filter.mpr ⟨List.mem_append_right _ (List.mem_of_getElem? (i := 862) (by decide +kernel)), rfl⟩
theorem t_863 : (Jvm.Cond.instanceMethod ({ cls := "RangeSheetModel", name := "relate", desc := "(IIII)I" } : Jvm.MethodName)) ∈ TW := List.mem_filter.mpr ⟨List.mem_append_right _ (List.mem_of_getElem? (i := 863) (by decide +kernel)), rfl⟩
theorem t_864 : (Jvm.Cond.selects "RangeSheetModel" ({ cls := "RangeSheetModel", name := "relate", desc := "(IIII)I" } : Jvm.MethodName) ({ cls := "RangeSheetModel", name := "relate", desc := "(IIII)I" } : Jvm.MethodName)) ∈ TW := List.mem_filter.mpr ⟨List.mem_append_right _ (List.mem_of_getElem? (i := 864) (by decide +kernel)), rfl⟩
theorem t_865 : (Jvm.Cond.code ({ cls := "RangeSheetModel", name := "relate", desc := "(IIII)I" } : Jvm.MethodName) prog_16_method_12_code (5 : Nat) (Option.some Jvm.ClassFile.FieldType.int)) ∈ TW := List.mem_filter.mpr ⟨List.mem_append_right _ (List.mem_of_getElem? (i := 865) (by decide +kernel)), rfl⟩
theorem t_866 : (Jvm.Cond.methodLink "RangeSheetModel" (100 : Nat) ({ cls := "RangeSheetModel", name := "isRelation", desc := "(IIII)Z" } : Jvm.MethodName)) ∈ TW := List.mem_filter.mpr ⟨List.mem_append_right _ (List.mem_of_getElem? (i := 866) (by decide +kernel)), rfl⟩
theorem t_868 : (Jvm.Cond.instanceMethod ({ cls := "RangeSheetModel", name := "isRelation", desc := "(IIII)Z" } : Jvm.MethodName)) ∈ TW := List.mem_filter.mpr ⟨List.mem_append_right _ (List.mem_of_getElem? (i := 868) (by decide +kernel)), rfl⟩
theorem t_869 : (Jvm.Cond.code ({ cls := "RangeSheetModel", name := "isRelation", desc := "(IIII)Z" } : Jvm.MethodName) prog_16_method_11_code (6 : Nat) (Option.some Jvm.ClassFile.FieldType.boolean)) ∈ TW := List.mem_filter.mpr ⟨List.mem_append_right _ (List.mem_of_getElem? (i := 869) (by decide +kernel)), rfl⟩
theorem t_870 : (Jvm.Cond.methodLink "RangeSheetModel" (89 : Nat) ({ cls := "RangeSheetModel", name := "within", desc := "(III)Z" } : Jvm.MethodName)) ∈ TW := List.mem_filter.mpr ⟨List.mem_append_right _ (List.mem_of_getElem? (i := 870) (by decide +kernel)), rfl⟩
theorem t_871 : (Jvm.Cond.static ({ cls := "RangeSheetModel", name := "within", desc := "(III)Z" } : Jvm.MethodName)) ∈ TW := List.mem_filter.mpr ⟨List.mem_append_right _ (List.mem_of_getElem? (i := 871) (by decide +kernel)), rfl⟩
theorem t_872 : (Jvm.Cond.code ({ cls := "RangeSheetModel", name := "within", desc := "(III)Z" } : Jvm.MethodName) prog_16_method_4_code (3 : Nat) (Option.some Jvm.ClassFile.FieldType.boolean)) ∈ TW := List.mem_filter.mpr ⟨List.mem_append_right _ (List.mem_of_getElem? (i := 872) (by decide +kernel)), rfl⟩
theorem t_873 : (Jvm.Cond.methodLink "RangeSheetModel" (93 : Nat) ({ cls := "RangeSheetModel", name := "bits", desc := "(I)I" } : Jvm.MethodName)) ∈ TW := List.mem_filter.mpr ⟨List.mem_append_right _ (List.mem_of_getElem? (i := 873) (by decide +kernel)), rfl⟩
theorem t_874 : (Jvm.Cond.static ({ cls := "RangeSheetModel", name := "bits", desc := "(I)I" } : Jvm.MethodName)) ∈ TW := List.mem_filter.mpr ⟨List.mem_append_right _ (List.mem_of_getElem? (i := 874) (by decide +kernel)), rfl⟩
theorem t_875 : (Jvm.Cond.code ({ cls := "RangeSheetModel", name := "bits", desc := "(I)I" } : Jvm.MethodName) prog_16_method_10_code (3 : Nat) (Option.some Jvm.ClassFile.FieldType.int)) ∈ TW := List.mem_filter.mpr ⟨List.mem_append_right _ (List.mem_of_getElem? (i := 875) (by decide +kernel)), rfl⟩
theorem t_876 : (Jvm.Cond.methodLink "RangeSheetModel" (96 : Nat) ({ cls := "RangeSheetModel", name := "isCell", desc := "(I)Z" } : Jvm.MethodName)) ∈ TW := List.mem_filter.mpr ⟨List.mem_append_right _ (List.mem_of_getElem? (i := 876) (by decide +kernel)), rfl⟩
theorem t_878 : (Jvm.Cond.instanceMethod ({ cls := "RangeSheetModel", name := "isCell", desc := "(I)Z" } : Jvm.MethodName)) ∈ TW := List.mem_filter.mpr ⟨List.mem_append_right _ (List.mem_of_getElem? (i := 878) (by decide +kernel)), rfl⟩
theorem t_879 : (Jvm.Cond.code ({ cls := "RangeSheetModel", name := "isCell", desc := "(I)Z" } : Jvm.MethodName) prog_16_method_9_code (2 : Nat) (Option.some Jvm.ClassFile.FieldType.boolean)) ∈ TW := List.mem_filter.mpr ⟨List.mem_append_right _ (List.mem_of_getElem? (i := 879) (by decide +kernel)), rfl⟩
theorem t_880 : (Jvm.Cond.methodLink "RangeSheetLaw" (61 : Nat) ({ cls := "RangeSheetModel", name := "hold", desc := "(IZ)Z" } : Jvm.MethodName)) ∈ TW := List.mem_filter.mpr ⟨List.mem_append_right _ (List.mem_of_getElem? (i := 880) (by decide +kernel)), rfl⟩
theorem t_881 : (Jvm.Cond.instanceMethod ({ cls := "RangeSheetModel", name := "hold", desc := "(IZ)Z" } : Jvm.MethodName)) ∈ TW := List.mem_filter.mpr ⟨List.mem_append_right _ (List.mem_of_getElem? (i := 881) (by decide +kernel)), rfl⟩
theorem t_882 : (Jvm.Cond.selects "RangeSheetModel" ({ cls := "RangeSheetModel", name := "hold", desc := "(IZ)Z" } : Jvm.MethodName) ({ cls := "RangeSheetModel", name := "hold", desc := "(IZ)Z" } : Jvm.MethodName)) ∈ TW := List.mem_filter.mpr ⟨List.mem_append_right _ (List.mem_of_getElem? (i := 882) (by decide +kernel)), rfl⟩
theorem t_883 : (Jvm.Cond.code ({ cls := "RangeSheetModel", name := "hold", desc := "(IZ)Z" } : Jvm.MethodName) prog_16_method_13_code (3 : Nat) (Option.some Jvm.ClassFile.FieldType.boolean)) ∈ TW := List.mem_filter.mpr ⟨List.mem_append_right _ (List.mem_of_getElem? (i := 883) (by decide +kernel)), rfl⟩
theorem t_884 : (Jvm.Cond.methodLink "RangeSheetLaw" (65 : Nat) ({ cls := "RangeSheetModel", name := "row", desc := "(III)I" } : Jvm.MethodName)) ∈ TW := List.mem_filter.mpr ⟨List.mem_append_right _ (List.mem_of_getElem? (i := 884) (by decide +kernel)), rfl⟩
theorem t_885 : (Jvm.Cond.instanceMethod ({ cls := "RangeSheetModel", name := "row", desc := "(III)I" } : Jvm.MethodName)) ∈ TW := List.mem_filter.mpr ⟨List.mem_append_right _ (List.mem_of_getElem? (i := 885) (by decide +kernel)), rfl⟩
theorem t_886 : (Jvm.Cond.selects "RangeSheetModel" ({ cls := "RangeSheetModel", name := "row", desc := "(III)I" } : Jvm.MethodName) ({ cls := "RangeSheetModel", name := "row", desc := "(III)I" } : Jvm.MethodName)) ∈ TW := List.mem_filter.mpr ⟨List.mem_append_right _ (List.mem_of_getElem? (i := 886) (by decide +kernel)), rfl⟩
theorem t_887 : (Jvm.Cond.code ({ cls := "RangeSheetModel", name := "row", desc := "(III)I" } : Jvm.MethodName) prog_16_method_14_code (4 : Nat) (Option.some Jvm.ClassFile.FieldType.int)) ∈ TW := List.mem_filter.mpr ⟨List.mem_append_right _ (List.mem_of_getElem? (i := 887) (by decide +kernel)), rfl⟩
theorem t_888 : (Jvm.Cond.methodLink "RangeSheetLaw" (69 : Nat) ({ cls := "RangeSheetModel", name := "set", desc := "(III)I" } : Jvm.MethodName)) ∈ TW := List.mem_filter.mpr ⟨List.mem_append_right _ (List.mem_of_getElem? (i := 888) (by decide +kernel)), rfl⟩
theorem t_889 : (Jvm.Cond.instanceMethod ({ cls := "RangeSheetModel", name := "set", desc := "(III)I" } : Jvm.MethodName)) ∈ TW := List.mem_filter.mpr ⟨List.mem_append_right _ (List.mem_of_getElem? (i := 889) (by decide +kernel)), rfl⟩
theorem t_890 : (Jvm.Cond.selects "RangeSheetModel" ({ cls := "RangeSheetModel", name := "set", desc := "(III)I" } : Jvm.MethodName) ({ cls := "RangeSheetModel", name := "set", desc := "(III)I" } : Jvm.MethodName)) ∈ TW := List.mem_filter.mpr ⟨List.mem_append_right _ (List.mem_of_getElem? (i := 890) (by decide +kernel)), rfl⟩
theorem t_891 : (Jvm.Cond.code ({ cls := "RangeSheetModel", name := "set", desc := "(III)I" } : Jvm.MethodName) prog_16_method_15_code (4 : Nat) (Option.some Jvm.ClassFile.FieldType.int)) ∈ TW := List.mem_filter.mpr ⟨List.mem_append_right _ (List.mem_of_getElem? (i := 891) (by decide +kernel)), rfl⟩
theorem t_892 : (Jvm.Cond.methodLink "RangeSheetLaw" (73 : Nat) ({ cls := "RangeSheetModel", name := "force", desc := "(IZ)Z" } : Jvm.MethodName)) ∈ TW := List.mem_filter.mpr ⟨List.mem_append_right _ (List.mem_of_getElem? (i := 892) (by decide +kernel)), rfl⟩
theorem t_893 : (Jvm.Cond.instanceMethod ({ cls := "RangeSheetModel", name := "force", desc := "(IZ)Z" } : Jvm.MethodName)) ∈ TW := List.mem_filter.mpr ⟨List.mem_append_right _ (List.mem_of_getElem? (i := 893) (by decide +kernel)), rfl⟩
theorem t_894 : (Jvm.Cond.selects "RangeSheetModel" ({ cls := "RangeSheetModel", name := "force", desc := "(IZ)Z" } : Jvm.MethodName) ({ cls := "RangeSheetModel", name := "force", desc := "(IZ)Z" } : Jvm.MethodName)) ∈ TW := List.mem_filter.mpr ⟨List.mem_append_right _ (List.mem_of_getElem? (i := 894) (by decide +kernel)), rfl⟩
theorem t_895 : (Jvm.Cond.code ({ cls := "RangeSheetModel", name := "force", desc := "(IZ)Z" } : Jvm.MethodName) prog_16_method_17_code (3 : Nat) (Option.some Jvm.ClassFile.FieldType.boolean)) ∈ TW := List.mem_filter.mpr ⟨List.mem_append_right _ (List.mem_of_getElem? (i := 895) (by decide +kernel)), rfl⟩
theorem t_896 : (Jvm.Cond.methodLink "RangeSheetModel" (113 : Nat) ({ cls := "RangeSheetModel", name := "has", desc := "(II)Z" } : Jvm.MethodName)) ∈ TW := List.mem_filter.mpr ⟨List.mem_append_right _ (List.mem_of_getElem? (i := 896) (by decide +kernel)), rfl⟩
theorem t_897 : (Jvm.Cond.static ({ cls := "RangeSheetModel", name := "has", desc := "(II)Z" } : Jvm.MethodName)) ∈ TW := List.mem_filter.mpr ⟨List.mem_append_right _ (List.mem_of_getElem? (i := 897) (by decide +kernel)), rfl⟩
theorem t_898 : (Jvm.Cond.code ({ cls := "RangeSheetModel", name := "has", desc := "(II)Z" } : Jvm.MethodName) prog_16_method_16_code (2 : Nat) (Option.some Jvm.ClassFile.FieldType.boolean)) ∈ TW := List.mem_filter.mpr ⟨List.mem_append_right _ (List.mem_of_getElem? (i := 898) (by decide +kernel)), rfl⟩
theorem t_899 : (Jvm.Cond.methodLink "RangeSheetLaw" (78 : Nat) ({ cls := "RangeSheetModel", name := "narrow", desc := "()Z" } : Jvm.MethodName)) ∈ TW := List.mem_filter.mpr ⟨List.mem_append_right _ (List.mem_of_getElem? (i := 899) (by decide +kernel)), rfl⟩
theorem t_900 : (Jvm.Cond.instanceMethod ({ cls := "RangeSheetModel", name := "narrow", desc := "()Z" } : Jvm.MethodName)) ∈ TW := List.mem_filter.mpr ⟨List.mem_append_right _ (List.mem_of_getElem? (i := 900) (by decide +kernel)), rfl⟩
theorem t_901 : (Jvm.Cond.selects "RangeSheetModel" ({ cls := "RangeSheetModel", name := "narrow", desc := "()Z" } : Jvm.MethodName) ({ cls := "RangeSheetModel", name := "narrow", desc := "()Z" } : Jvm.MethodName)) ∈ TW := List.mem_filter.mpr ⟨List.mem_append_right _ (List.mem_of_getElem? (i := 901) (by decide +kernel)), rfl⟩
theorem t_902 : (Jvm.Cond.code ({ cls := "RangeSheetModel", name := "narrow", desc := "()Z" } : Jvm.MethodName) prog_16_method_38_code (3 : Nat) (Option.some Jvm.ClassFile.FieldType.boolean)) ∈ TW := List.mem_filter.mpr ⟨List.mem_append_right _ (List.mem_of_getElem? (i := 902) (by decide +kernel)), rfl⟩
theorem t_903 : (Jvm.Cond.methodLink "RangeSheetModel" (208 : Nat) ({ cls := "RangeSheetModel", name := "narrowWith", desc := "(I)Z" } : Jvm.MethodName)) ∈ TW := List.mem_filter.mpr ⟨List.mem_append_right _ (List.mem_of_getElem? (i := 903) (by decide +kernel)), rfl⟩
theorem t_905 : (Jvm.Cond.instanceMethod ({ cls := "RangeSheetModel", name := "narrowWith", desc := "(I)Z" } : Jvm.MethodName)) ∈ TW := List.mem_filter.mpr ⟨List.mem_append_right _ (List.mem_of_getElem? (i := 905) (by decide +kernel)), rfl⟩
theorem t_906 : (Jvm.Cond.code ({ cls := "RangeSheetModel", name := "narrowWith", desc := "(I)Z" } : Jvm.MethodName) prog_16_method_37_code (5 : Nat) (Option.some Jvm.ClassFile.FieldType.boolean)) ∈ TW := List.mem_filter.mpr ⟨List.mem_append_right _ (List.mem_of_getElem? (i := 906) (by decide +kernel)), rfl⟩
theorem t_907 : (Jvm.Cond.methodLink "RangeSheetModel" (160 : Nat) ({ cls := "RangeSheetModel", name := "cut", desc := "(IIII)Z" } : Jvm.MethodName)) ∈ TW := List.mem_filter.mpr ⟨List.mem_append_right _ (List.mem_of_getElem? (i := 907) (by decide +kernel)), rfl⟩
theorem t_909 : (Jvm.Cond.instanceMethod ({ cls := "RangeSheetModel", name := "cut", desc := "(IIII)Z" } : Jvm.MethodName)) ∈ TW := List.mem_filter.mpr ⟨List.mem_append_right _ (List.mem_of_getElem? (i := 909) (by decide +kernel)), rfl⟩
theorem t_910 : (Jvm.Cond.code ({ cls := "RangeSheetModel", name := "cut", desc := "(IIII)Z" } : Jvm.MethodName) prog_16_method_18_code (6 : Nat) (Option.some Jvm.ClassFile.FieldType.boolean)) ∈ TW := List.mem_filter.mpr ⟨List.mem_append_right _ (List.mem_of_getElem? (i := 910) (by decide +kernel)), rfl⟩
theorem t_911 : (Jvm.Cond.methodLink "RangeSheetModel" (120 : Nat) ({ cls := "RangeSheetModel", name := "greater", desc := "(II)I" } : Jvm.MethodName)) ∈ TW := List.mem_filter.mpr ⟨List.mem_append_right _ (List.mem_of_getElem? (i := 911) (by decide +kernel)), rfl⟩
theorem t_912 : (Jvm.Cond.static ({ cls := "RangeSheetModel", name := "greater", desc := "(II)I" } : Jvm.MethodName)) ∈ TW := List.mem_filter.mpr ⟨List.mem_append_right _ (List.mem_of_getElem? (i := 912) (by decide +kernel)), rfl⟩
theorem t_913 : (Jvm.Cond.code ({ cls := "RangeSheetModel", name := "greater", desc := "(II)I" } : Jvm.MethodName) prog_16_method_6_code (2 : Nat) (Option.some Jvm.ClassFile.FieldType.int)) ∈ TW := List.mem_filter.mpr ⟨List.mem_append_right _ (List.mem_of_getElem? (i := 913) (by decide +kernel)), rfl⟩
theorem t_914 : (Jvm.Cond.methodLink "RangeSheetModel" (124 : Nat) ({ cls := "RangeSheetModel", name := "lesser", desc := "(II)I" } : Jvm.MethodName)) ∈ TW := List.mem_filter.mpr ⟨List.mem_append_right _ (List.mem_of_getElem? (i := 914) (by decide +kernel)), rfl⟩
theorem t_915 : (Jvm.Cond.static ({ cls := "RangeSheetModel", name := "lesser", desc := "(II)I" } : Jvm.MethodName)) ∈ TW := List.mem_filter.mpr ⟨List.mem_append_right _ (List.mem_of_getElem? (i := 915) (by decide +kernel)), rfl⟩
theorem t_916 : (Jvm.Cond.code ({ cls := "RangeSheetModel", name := "lesser", desc := "(II)I" } : Jvm.MethodName) prog_16_method_5_code (2 : Nat) (Option.some Jvm.ClassFile.FieldType.int)) ∈ TW := List.mem_filter.mpr ⟨List.mem_append_right _ (List.mem_of_getElem? (i := 916) (by decide +kernel)), rfl⟩
theorem t_917 : (Jvm.Cond.methodLink "RangeSheetModel" (205 : Nat) ({ cls := "RangeSheetModel", name := "settle", desc := "(I)Z" } : Jvm.MethodName)) ∈ TW := List.mem_filter.mpr ⟨List.mem_append_right _ (List.mem_of_getElem? (i := 917) (by decide +kernel)), rfl⟩
theorem t_919 : (Jvm.Cond.instanceMethod ({ cls := "RangeSheetModel", name := "settle", desc := "(I)Z" } : Jvm.MethodName)) ∈ TW := List.mem_filter.mpr ⟨List.mem_append_right _ (List.mem_of_getElem? (i := 919) (by decide +kernel)), rfl⟩
theorem t_920 : (Jvm.Cond.code ({ cls := "RangeSheetModel", name := "settle", desc := "(I)Z" } : Jvm.MethodName) prog_16_method_36_code (3 : Nat) (Option.some Jvm.ClassFile.FieldType.boolean)) ∈ TW := List.mem_filter.mpr ⟨List.mem_append_right _ (List.mem_of_getElem? (i := 920) (by decide +kernel)), rfl⟩
theorem t_921 : (Jvm.Cond.methodLink "RangeSheetModel" (202 : Nat) ({ cls := "RangeSheetModel", name := "narrowBy", desc := "(II)Z" } : Jvm.MethodName)) ∈ TW := List.mem_filter.mpr ⟨List.mem_append_right _ (List.mem_of_getElem? (i := 921) (by decide +kernel)), rfl⟩
theorem t_923 : (Jvm.Cond.instanceMethod ({ cls := "RangeSheetModel", name := "narrowBy", desc := "(II)Z" } : Jvm.MethodName)) ∈ TW := List.mem_filter.mpr ⟨List.mem_append_right _ (List.mem_of_getElem? (i := 923) (by decide +kernel)), rfl⟩
theorem t_924 : (Jvm.Cond.code ({ cls := "RangeSheetModel", name := "narrowBy", desc := "(II)Z" } : Jvm.MethodName) prog_16_method_35_code (8 : Nat) (Option.some Jvm.ClassFile.FieldType.boolean)) ∈ TW := List.mem_filter.mpr ⟨List.mem_append_right _ (List.mem_of_getElem? (i := 924) (by decide +kernel)), rfl⟩
theorem t_925 : (Jvm.Cond.methodLink "RangeSheetModel" (181 : Nat) ({ cls := "RangeSheetModel", name := "different", desc := "(II)Z" } : Jvm.MethodName)) ∈ TW := List.mem_filter.mpr ⟨List.mem_append_right _ (List.mem_of_getElem? (i := 925) (by decide +kernel)), rfl⟩
theorem t_927 : (Jvm.Cond.instanceMethod ({ cls := "RangeSheetModel", name := "different", desc := "(II)Z" } : Jvm.MethodName)) ∈ TW := List.mem_filter.mpr ⟨List.mem_append_right _ (List.mem_of_getElem? (i := 927) (by decide +kernel)), rfl⟩
theorem t_928 : (Jvm.Cond.code ({ cls := "RangeSheetModel", name := "different", desc := "(II)Z" } : Jvm.MethodName) prog_16_method_34_code (7 : Nat) (Option.some Jvm.ClassFile.FieldType.boolean)) ∈ TW := List.mem_filter.mpr ⟨List.mem_append_right _ (List.mem_of_getElem? (i := 928) (by decide +kernel)), rfl⟩
theorem t_929 : (Jvm.Cond.methodLink "RangeSheetModel" (178 : Nat) ({ cls := "RangeSheetModel", name := "seats", desc := "(IIII)Z" } : Jvm.MethodName)) ∈ TW := List.mem_filter.mpr ⟨List.mem_append_right _ (List.mem_of_getElem? (i := 929) (by decide +kernel)), rfl⟩
theorem t_931 : (Jvm.Cond.instanceMethod ({ cls := "RangeSheetModel", name := "seats", desc := "(IIII)Z" } : Jvm.MethodName)) ∈ TW := List.mem_filter.mpr ⟨List.mem_append_right _ (List.mem_of_getElem? (i := 931) (by decide +kernel)), rfl⟩
theorem t_932 : (Jvm.Cond.code ({ cls := "RangeSheetModel", name := "seats", desc := "(IIII)Z" } : Jvm.MethodName) prog_16_method_33_code (12 : Nat) (Option.some Jvm.ClassFile.FieldType.boolean)) ∈ TW := List.mem_filter.mpr ⟨List.mem_append_right _ (List.mem_of_getElem? (i := 932) (by decide +kernel)), rfl⟩
theorem t_933 : (Jvm.Cond.methodLink "RangeSheetModel" (184 : Nat) ({ cls := "RangeSheetModel", name := "lookup", desc := "(IIII)Z" } : Jvm.MethodName)) ∈ TW := List.mem_filter.mpr ⟨List.mem_append_right _ (List.mem_of_getElem? (i := 933) (by decide +kernel)), rfl⟩
theorem t_935 : (Jvm.Cond.instanceMethod ({ cls := "RangeSheetModel", name := "lookup", desc := "(IIII)Z" } : Jvm.MethodName)) ∈ TW := List.mem_filter.mpr ⟨List.mem_append_right _ (List.mem_of_getElem? (i := 935) (by decide +kernel)), rfl⟩
theorem t_936 : (Jvm.Cond.code ({ cls := "RangeSheetModel", name := "lookup", desc := "(IIII)Z" } : Jvm.MethodName) prog_16_method_32_code (8 : Nat) (Option.some Jvm.ClassFile.FieldType.boolean)) ∈ TW := List.mem_filter.mpr ⟨List.mem_append_right _ (List.mem_of_getElem? (i := 936) (by decide +kernel)), rfl⟩
theorem t_937 : (Jvm.Cond.methodLink "RangeSheetModel" (149 : Nat) ({ cls := "RangeSheetModel", name := "clearEnds", desc := "()V" } : Jvm.MethodName)) ∈ TW := List.mem_filter.mpr ⟨List.mem_append_right _ (List.mem_of_getElem? (i := 937) (by decide +kernel)), rfl⟩
theorem t_939 : (Jvm.Cond.instanceMethod ({ cls := "RangeSheetModel", name := "clearEnds", desc := "()V" } : Jvm.MethodName)) ∈ TW := List.mem_filter.mpr ⟨List.mem_append_right _ (List.mem_of_getElem? (i := 939) (by decide +kernel)), rfl⟩
theorem t_940 : (Jvm.Cond.code ({ cls := "RangeSheetModel", name := "clearEnds", desc := "()V" } : Jvm.MethodName) prog_16_method_20_code (1 : Nat) (Option.none : Option Jvm.ClassFile.FieldType)) ∈ TW := List.mem_filter.mpr ⟨List.mem_append_right _ (List.mem_of_getElem? (i := 940) (by decide +kernel)), rfl⟩
theorem t_941 : (Jvm.Cond.methodLink "RangeSheetModel" (156 : Nat) ({ cls := "RangeSheetModel", name := "note", desc := "(IIII)V" } : Jvm.MethodName)) ∈ TW := List.mem_filter.mpr ⟨List.mem_append_right _ (List.mem_of_getElem? (i := 941) (by decide +kernel)), rfl⟩
theorem t_943 : (Jvm.Cond.instanceMethod ({ cls := "RangeSheetModel", name := "note", desc := "(IIII)V" } : Jvm.MethodName)) ∈ TW := List.mem_filter.mpr ⟨List.mem_append_right _ (List.mem_of_getElem? (i := 943) (by decide +kernel)), rfl⟩
theorem t_944 : (Jvm.Cond.code ({ cls := "RangeSheetModel", name := "note", desc := "(IIII)V" } : Jvm.MethodName) prog_16_method_21_code (5 : Nat) (Option.none : Option Jvm.ClassFile.FieldType)) ∈ TW := List.mem_filter.mpr ⟨List.mem_append_right _ (List.mem_of_getElem? (i := 944) (by decide +kernel)), rfl⟩
theorem t_945 : (Jvm.Cond.methodLink "RangeSheetModel" (187 : Nat) ({ cls := "RangeSheetModel", name := "atMost", desc := "(IIII)Z" } : Jvm.MethodName)) ∈ TW := List.mem_filter.mpr ⟨List.mem_append_right _ (List.mem_of_getElem? (i := 945) (by decide +kernel)), rfl⟩
theorem t_947 : (Jvm.Cond.instanceMethod ({ cls := "RangeSheetModel", name := "atMost", desc := "(IIII)Z" } : Jvm.MethodName)) ∈ TW := List.mem_filter.mpr ⟨List.mem_append_right _ (List.mem_of_getElem? (i := 947) (by decide +kernel)), rfl⟩
theorem t_948 : (Jvm.Cond.code ({ cls := "RangeSheetModel", name := "atMost", desc := "(IIII)Z" } : Jvm.MethodName) prog_16_method_31_code (6 : Nat) (Option.some Jvm.ClassFile.FieldType.boolean)) ∈ TW := List.mem_filter.mpr ⟨List.mem_append_right _ (List.mem_of_getElem? (i := 948) (by decide +kernel)), rfl⟩
theorem t_949 : (Jvm.Cond.methodLink "RangeSheetModel" (190 : Nat) ({ cls := "RangeSheetModel", name := "byPairs", desc := "(II)Z" } : Jvm.MethodName)) ∈ TW := List.mem_filter.mpr ⟨List.mem_append_right _ (List.mem_of_getElem? (i := 949) (by decide +kernel)), rfl⟩
theorem t_951 : (Jvm.Cond.instanceMethod ({ cls := "RangeSheetModel", name := "byPairs", desc := "(II)Z" } : Jvm.MethodName)) ∈ TW := List.mem_filter.mpr ⟨List.mem_append_right _ (List.mem_of_getElem? (i := 951) (by decide +kernel)), rfl⟩
theorem t_952 : (Jvm.Cond.code ({ cls := "RangeSheetModel", name := "byPairs", desc := "(II)Z" } : Jvm.MethodName) prog_16_method_23_code (14 : Nat) (Option.some Jvm.ClassFile.FieldType.boolean)) ∈ TW := List.mem_filter.mpr ⟨List.mem_append_right _ (List.mem_of_getElem? (i := 952) (by decide +kernel)), rfl⟩
theorem t_953 : (Jvm.Cond.methodLink "RangeSheetModel" (152 : Nat) ({ cls := "RangeSheetModel", name := "thirdOf", desc := "(III)I" } : Jvm.MethodName)) ∈ TW := List.mem_filter.mpr ⟨List.mem_append_right _ (List.mem_of_getElem? (i := 953) (by decide +kernel)), rfl⟩
theorem t_954 : (Jvm.Cond.static ({ cls := "RangeSheetModel", name := "thirdOf", desc := "(III)I" } : Jvm.MethodName)) ∈ TW := List.mem_filter.mpr ⟨List.mem_append_right _ (List.mem_of_getElem? (i := 954) (by decide +kernel)), rfl⟩
theorem t_955 : (Jvm.Cond.code ({ cls := "RangeSheetModel", name := "thirdOf", desc := "(III)I" } : Jvm.MethodName) prog_16_method_22_code (3 : Nat) (Option.some Jvm.ClassFile.FieldType.int)) ∈ TW := List.mem_filter.mpr ⟨List.mem_append_right _ (List.mem_of_getElem? (i := 955) (by decide +kernel)), rfl⟩
theorem t_956 : (Jvm.Cond.constant "RangeSheetModel" (145 : Nat) (40000 : Int32)) ∈ TW := List.mem_filter.mpr ⟨List.mem_append_right _ (List.mem_of_getElem? (i := 956) (by decide +kernel)), rfl⟩
theorem t_957 : (Jvm.Cond.methodLink "RangeSheetModel" (146 : Nat) ({ cls := "RangeSheetModel", name := "divided", desc := "(II)I" } : Jvm.MethodName)) ∈ TW := List.mem_filter.mpr ⟨List.mem_append_right _ (List.mem_of_getElem? (i := 957) (by decide +kernel)), rfl⟩
theorem t_958 : (Jvm.Cond.static ({ cls := "RangeSheetModel", name := "divided", desc := "(II)I" } : Jvm.MethodName)) ∈ TW := List.mem_filter.mpr ⟨List.mem_append_right _ (List.mem_of_getElem? (i := 958) (by decide +kernel)), rfl⟩
theorem t_959 : (Jvm.Cond.code ({ cls := "RangeSheetModel", name := "divided", desc := "(II)I" } : Jvm.MethodName) prog_16_method_19_code (3 : Nat) (Option.some Jvm.ClassFile.FieldType.int)) ∈ TW := List.mem_filter.mpr ⟨List.mem_append_right _ (List.mem_of_getElem? (i := 959) (by decide +kernel)), rfl⟩
theorem t_960 : (Jvm.Cond.methodLink "RangeSheetModel" (193 : Nat) ({ cls := "RangeSheetModel", name := "sum", desc := "(IIII)Z" } : Jvm.MethodName)) ∈ TW := List.mem_filter.mpr ⟨List.mem_append_right _ (List.mem_of_getElem? (i := 960) (by decide +kernel)), rfl⟩
theorem t_962 : (Jvm.Cond.instanceMethod ({ cls := "RangeSheetModel", name := "sum", desc := "(IIII)Z" } : Jvm.MethodName)) ∈ TW := List.mem_filter.mpr ⟨List.mem_append_right _ (List.mem_of_getElem? (i := 962) (by decide +kernel)), rfl⟩
theorem t_963 : (Jvm.Cond.code ({ cls := "RangeSheetModel", name := "sum", desc := "(IIII)Z" } : Jvm.MethodName) prog_16_method_24_code (12 : Nat) (Option.some Jvm.ClassFile.FieldType.boolean)) ∈ TW := List.mem_filter.mpr ⟨List.mem_append_right _ (List.mem_of_getElem? (i := 963) (by decide +kernel)), rfl⟩
theorem t_964 : (Jvm.Cond.methodLink "RangeSheetModel" (196 : Nat) ({ cls := "RangeSheetModel", name := "implies", desc := "(IIII)Z" } : Jvm.MethodName)) ∈ TW := List.mem_filter.mpr ⟨List.mem_append_right _ (List.mem_of_getElem? (i := 964) (by decide +kernel)), rfl⟩
theorem t_966 : (Jvm.Cond.instanceMethod ({ cls := "RangeSheetModel", name := "implies", desc := "(IIII)Z" } : Jvm.MethodName)) ∈ TW := List.mem_filter.mpr ⟨List.mem_append_right _ (List.mem_of_getElem? (i := 966) (by decide +kernel)), rfl⟩
theorem t_967 : (Jvm.Cond.code ({ cls := "RangeSheetModel", name := "implies", desc := "(IIII)Z" } : Jvm.MethodName) prog_16_method_30_code (6 : Nat) (Option.some Jvm.ClassFile.FieldType.boolean)) ∈ TW := List.mem_filter.mpr ⟨List.mem_append_right _ (List.mem_of_getElem? (i := 967) (by decide +kernel)), rfl⟩
theorem t_968 : (Jvm.Cond.methodLink "RangeSheetModel" (199 : Nat) ({ cls := "RangeSheetModel", name := "extreme", desc := "(IIIIZ)Z" } : Jvm.MethodName)) ∈ TW := List.mem_filter.mpr ⟨List.mem_append_right _ (List.mem_of_getElem? (i := 968) (by decide +kernel)), rfl⟩
theorem t_970 : (Jvm.Cond.instanceMethod ({ cls := "RangeSheetModel", name := "extreme", desc := "(IIIIZ)Z" } : Jvm.MethodName)) ∈ TW := List.mem_filter.mpr ⟨List.mem_append_right _ (List.mem_of_getElem? (i := 970) (by decide +kernel)), rfl⟩
theorem t_971 : (Jvm.Cond.code ({ cls := "RangeSheetModel", name := "extreme", desc := "(IIIIZ)Z" } : Jvm.MethodName) prog_16_method_28_code (9 : Nat) (Option.some Jvm.ClassFile.FieldType.boolean)) ∈ TW := List.mem_filter.mpr ⟨List.mem_append_right _ (List.mem_of_getElem? (i := 971) (by decide +kernel)), rfl⟩
theorem t_972 : (Jvm.Cond.methodLink "RangeSheetModel" (170 : Nat) ({ cls := "RangeSheetModel", name := "thirdSide", desc := "(IIIIII)Z" } : Jvm.MethodName)) ∈ TW := List.mem_filter.mpr ⟨List.mem_append_right _ (List.mem_of_getElem? (i := 972) (by decide +kernel)), rfl⟩
theorem t_974 : (Jvm.Cond.instanceMethod ({ cls := "RangeSheetModel", name := "thirdSide", desc := "(IIIIII)Z" } : Jvm.MethodName)) ∈ TW := List.mem_filter.mpr ⟨List.mem_append_right _ (List.mem_of_getElem? (i := 974) (by decide +kernel)), rfl⟩
theorem t_975 : (Jvm.Cond.code ({ cls := "RangeSheetModel", name := "thirdSide", desc := "(IIIIII)Z" } : Jvm.MethodName) prog_16_method_29_code (12 : Nat) (Option.some Jvm.ClassFile.FieldType.boolean)) ∈ TW := List.mem_filter.mpr ⟨List.mem_append_right _ (List.mem_of_getElem? (i := 975) (by decide +kernel)), rfl⟩
theorem t_976 : (Jvm.Cond.methodLink "RangeSheetModel" (174 : Nat) ({ cls := "RangeSheetModel", name := "extremeSide", desc := "(IIIIZ)Z" } : Jvm.MethodName)) ∈ TW := List.mem_filter.mpr ⟨List.mem_append_right _ (List.mem_of_getElem? (i := 976) (by decide +kernel)), rfl⟩
theorem t_978 : (Jvm.Cond.instanceMethod ({ cls := "RangeSheetModel", name := "extremeSide", desc := "(IIIIZ)Z" } : Jvm.MethodName)) ∈ TW := List.mem_filter.mpr ⟨List.mem_append_right _ (List.mem_of_getElem? (i := 978) (by decide +kernel)), rfl⟩
theorem t_979 : (Jvm.Cond.code ({ cls := "RangeSheetModel", name := "extremeSide", desc := "(IIIIZ)Z" } : Jvm.MethodName) prog_16_method_27_code (11 : Nat) (Option.some Jvm.ClassFile.FieldType.boolean)) ∈ TW := List.mem_filter.mpr ⟨List.mem_append_right _ (List.mem_of_getElem? (i := 979) (by decide +kernel)), rfl⟩
theorem t_980 : (Jvm.Cond.methodLink "RangeSheetModel" (163 : Nat) ({ cls := "RangeSheetModel", name := "canBeLesser", desc := "(IIIII)Z" } : Jvm.MethodName)) ∈ TW := List.mem_filter.mpr ⟨List.mem_append_right _ (List.mem_of_getElem? (i := 980) (by decide +kernel)), rfl⟩
theorem t_981 : (Jvm.Cond.static ({ cls := "RangeSheetModel", name := "canBeLesser", desc := "(IIIII)Z" } : Jvm.MethodName)) ∈ TW := List.mem_filter.mpr ⟨List.mem_append_right _ (List.mem_of_getElem? (i := 981) (by decide +kernel)), rfl⟩
theorem t_982 : (Jvm.Cond.code ({ cls := "RangeSheetModel", name := "canBeLesser", desc := "(IIIII)Z" } : Jvm.MethodName) prog_16_method_25_code (5 : Nat) (Option.some Jvm.ClassFile.FieldType.boolean)) ∈ TW := List.mem_filter.mpr ⟨List.mem_append_right _ (List.mem_of_getElem? (i := 982) (by decide +kernel)), rfl⟩
theorem t_983 : (Jvm.Cond.methodLink "RangeSheetModel" (167 : Nat) ({ cls := "RangeSheetModel", name := "canBeGreater", desc := "(IIIII)Z" } : Jvm.MethodName)) ∈ TW := List.mem_filter.mpr ⟨List.mem_append_right _ (List.mem_of_getElem? (i := 983) (by decide +kernel)), rfl⟩
theorem t_984 : (Jvm.Cond.static ({ cls := "RangeSheetModel", name := "canBeGreater", desc := "(IIIII)Z" } : Jvm.MethodName)) ∈ TW := List.mem_filter.mpr ⟨List.mem_append_right _ (List.mem_of_getElem? (i := 984) (by decide +kernel)), rfl⟩
theorem t_985 : (Jvm.Cond.code ({ cls := "RangeSheetModel", name := "canBeGreater", desc := "(IIIII)Z" } : Jvm.MethodName) prog_16_method_26_code (5 : Nat) (Option.some Jvm.ClassFile.FieldType.boolean)) ∈ TW := List.mem_filter.mpr ⟨List.mem_append_right _ (List.mem_of_getElem? (i := 985) (by decide +kernel)), rfl⟩
theorem t_986 : (Jvm.Cond.methodLink "RangeSheetLaw" (82 : Nat) ({ cls := "RangeSheetModel", name := "low", desc := "(I)I" } : Jvm.MethodName)) ∈ TW := List.mem_filter.mpr ⟨List.mem_append_right _ (List.mem_of_getElem? (i := 986) (by decide +kernel)), rfl⟩
theorem t_987 : (Jvm.Cond.instanceMethod ({ cls := "RangeSheetModel", name := "low", desc := "(I)I" } : Jvm.MethodName)) ∈ TW := List.mem_filter.mpr ⟨List.mem_append_right _ (List.mem_of_getElem? (i := 987) (by decide +kernel)), rfl⟩
theorem t_988 : (Jvm.Cond.selects "RangeSheetModel" ({ cls := "RangeSheetModel", name := "low", desc := "(I)I" } : Jvm.MethodName) ({ cls := "RangeSheetModel", name := "low", desc := "(I)I" } : Jvm.MethodName)) ∈ TW := List.mem_filter.mpr ⟨List.mem_append_right _ (List.mem_of_getElem? (i := 988) (by decide +kernel)), rfl⟩
theorem t_989 : (Jvm.Cond.code ({ cls := "RangeSheetModel", name := "low", desc := "(I)I" } : Jvm.MethodName) prog_16_method_39_code (2 : Nat) (Option.some Jvm.ClassFile.FieldType.int)) ∈ TW := List.mem_filter.mpr ⟨List.mem_append_right _ (List.mem_of_getElem? (i := 989) (by decide +kernel)), rfl⟩
theorem t_990 : (Jvm.Cond.methodLink "RangeSheetLaw" (86 : Nat) ({ cls := "RangeSheetModel", name := "high", desc := "(I)I" } : Jvm.MethodName)) ∈ TW := List.mem_filter.mpr ⟨List.mem_append_right _ (List.mem_of_getElem? (i := 990) (by decide +kernel)), rfl⟩
theorem t_991 : (Jvm.Cond.instanceMethod ({ cls := "RangeSheetModel", name := "high", desc := "(I)I" } : Jvm.MethodName)) ∈ TW := List.mem_filter.mpr ⟨List.mem_append_right _ (List.mem_of_getElem? (i := 991) (by decide +kernel)), rfl⟩
theorem t_992 : (Jvm.Cond.selects "RangeSheetModel" ({ cls := "RangeSheetModel", name := "high", desc := "(I)I" } : Jvm.MethodName) ({ cls := "RangeSheetModel", name := "high", desc := "(I)I" } : Jvm.MethodName)) ∈ TW := List.mem_filter.mpr ⟨List.mem_append_right _ (List.mem_of_getElem? (i := 992) (by decide +kernel)), rfl⟩
theorem t_993 : (Jvm.Cond.code ({ cls := "RangeSheetModel", name := "high", desc := "(I)I" } : Jvm.MethodName) prog_16_method_40_code (2 : Nat) (Option.some Jvm.ClassFile.FieldType.int)) ∈ TW := List.mem_filter.mpr ⟨List.mem_append_right _ (List.mem_of_getElem? (i := 993) (by decide +kernel)), rfl⟩
theorem t_994 : (Jvm.Cond.methodLink "RangeSheetLaw" (90 : Nat) ({ cls := "RangeSheetModel", name := "conflict", desc := "()I" } : Jvm.MethodName)) ∈ TW := List.mem_filter.mpr ⟨List.mem_append_right _ (List.mem_of_getElem? (i := 994) (by decide +kernel)), rfl⟩
theorem t_995 : (Jvm.Cond.instanceMethod ({ cls := "RangeSheetModel", name := "conflict", desc := "()I" } : Jvm.MethodName)) ∈ TW := List.mem_filter.mpr ⟨List.mem_append_right _ (List.mem_of_getElem? (i := 995) (by decide +kernel)), rfl⟩
theorem t_996 : (Jvm.Cond.selects "RangeSheetModel" ({ cls := "RangeSheetModel", name := "conflict", desc := "()I" } : Jvm.MethodName) ({ cls := "RangeSheetModel", name := "conflict", desc := "()I" } : Jvm.MethodName)) ∈ TW := List.mem_filter.mpr ⟨List.mem_append_right _ (List.mem_of_getElem? (i := 996) (by decide +kernel)), rfl⟩
theorem t_997 : (Jvm.Cond.code ({ cls := "RangeSheetModel", name := "conflict", desc := "()I" } : Jvm.MethodName) prog_16_method_41_code (3 : Nat) (Option.some Jvm.ClassFile.FieldType.int)) ∈ TW := List.mem_filter.mpr ⟨List.mem_append_right _ (List.mem_of_getElem? (i := 997) (by decide +kernel)), rfl⟩
theorem t_998 : (Jvm.Cond.methodLink "RangeSheetLaw" (94 : Nat) ({ cls := "RangeSheetModel", name := "because", desc := "(IZ)I" } : Jvm.MethodName)) ∈ TW := List.mem_filter.mpr ⟨List.mem_append_right _ (List.mem_of_getElem? (i := 998) (by decide +kernel)), rfl⟩
theorem t_999 : (Jvm.Cond.instanceMethod ({ cls := "RangeSheetModel", name := "because", desc := "(IZ)I" } : Jvm.MethodName)) ∈ TW := List.mem_filter.mpr ⟨List.mem_append_right _ (List.mem_of_getElem? (i := 999) (by decide +kernel)), rfl⟩
theorem t_1000 : (Jvm.Cond.selects "RangeSheetModel" ({ cls := "RangeSheetModel", name := "because", desc := "(IZ)I" } : Jvm.MethodName) ({ cls := "RangeSheetModel", name := "because", desc := "(IZ)I" } : Jvm.MethodName)) ∈ TW := List.mem_filter.mpr ⟨List.mem_append_right _ (List.mem_of_getElem? (i := 1000) (by decide +kernel)), rfl⟩
theorem t_1001 : (Jvm.Cond.code ({ cls := "RangeSheetModel", name := "because", desc := "(IZ)I" } : Jvm.MethodName) prog_16_method_42_code (7 : Nat) (Option.some Jvm.ClassFile.FieldType.int)) ∈ TW := List.mem_filter.mpr ⟨List.mem_append_right _ (List.mem_of_getElem? (i := 1001) (by decide +kernel)), rfl⟩
theorem t_1002 : (Jvm.Cond.methodLink "RangeSheetLaw" (98 : Nat) ({ cls := "RangeSheetModel", name := "solve", desc := "(I)I" } : Jvm.MethodName)) ∈ TW := List.mem_filter.mpr ⟨List.mem_append_right _ (List.mem_of_getElem? (i := 1002) (by decide +kernel)), rfl⟩
theorem t_1003 : (Jvm.Cond.instanceMethod ({ cls := "RangeSheetModel", name := "solve", desc := "(I)I" } : Jvm.MethodName)) ∈ TW := List.mem_filter.mpr ⟨List.mem_append_right _ (List.mem_of_getElem? (i := 1003) (by decide +kernel)), rfl⟩
theorem t_1004 : (Jvm.Cond.selects "RangeSheetModel" ({ cls := "RangeSheetModel", name := "solve", desc := "(I)I" } : Jvm.MethodName) ({ cls := "RangeSheetModel", name := "solve", desc := "(I)I" } : Jvm.MethodName)) ∈ TW := List.mem_filter.mpr ⟨List.mem_append_right _ (List.mem_of_getElem? (i := 1004) (by decide +kernel)), rfl⟩
theorem t_1005 : (Jvm.Cond.code ({ cls := "RangeSheetModel", name := "solve", desc := "(I)I" } : Jvm.MethodName) prog_16_method_47_code (2 : Nat) (Option.some Jvm.ClassFile.FieldType.int)) ∈ TW := List.mem_filter.mpr ⟨List.mem_append_right _ (List.mem_of_getElem? (i := 1005) (by decide +kernel)), rfl⟩
theorem t_1006 : (Jvm.Cond.methodLink "RangeSheetModel" (230 : Nat) ({ cls := "RangeSheetModel", name := "search", desc := "(IZI)I" } : Jvm.MethodName)) ∈ TW := List.mem_filter.mpr ⟨List.mem_append_right _ (List.mem_of_getElem? (i := 1006) (by decide +kernel)), rfl⟩
theorem t_1008 : (Jvm.Cond.instanceMethod ({ cls := "RangeSheetModel", name := "search", desc := "(IZI)I" } : Jvm.MethodName)) ∈ TW := List.mem_filter.mpr ⟨List.mem_append_right _ (List.mem_of_getElem? (i := 1008) (by decide +kernel)), rfl⟩
theorem t_1009 : (Jvm.Cond.code ({ cls := "RangeSheetModel", name := "search", desc := "(IZI)I" } : Jvm.MethodName) prog_16_method_46_code (8 : Nat) (Option.some Jvm.ClassFile.FieldType.int)) ∈ TW := List.mem_filter.mpr ⟨List.mem_append_right _ (List.mem_of_getElem? (i := 1009) (by decide +kernel)), rfl⟩
theorem t_1010 : (Jvm.Cond.methodLink "RangeSheetModel" (220 : Nat) ({ cls := "RangeSheetModel", name := "openCell", desc := "(II)I" } : Jvm.MethodName)) ∈ TW := List.mem_filter.mpr ⟨List.mem_append_right _ (List.mem_of_getElem? (i := 1010) (by decide +kernel)), rfl⟩
theorem t_1012 : (Jvm.Cond.instanceMethod ({ cls := "RangeSheetModel", name := "openCell", desc := "(II)I" } : Jvm.MethodName)) ∈ TW := List.mem_filter.mpr ⟨List.mem_append_right _ (List.mem_of_getElem? (i := 1012) (by decide +kernel)), rfl⟩
theorem t_1013 : (Jvm.Cond.code ({ cls := "RangeSheetModel", name := "openCell", desc := "(II)I" } : Jvm.MethodName) prog_16_method_43_code (4 : Nat) (Option.some Jvm.ClassFile.FieldType.int)) ∈ TW := List.mem_filter.mpr ⟨List.mem_append_right _ (List.mem_of_getElem? (i := 1013) (by decide +kernel)), rfl⟩
theorem t_1014 : (Jvm.Cond.methodLink "RangeSheetModel" (223 : Nat) ({ cls := "RangeSheetModel", name := "keepSetting", desc := "(I)V" } : Jvm.MethodName)) ∈ TW := List.mem_filter.mpr ⟨List.mem_append_right _ (List.mem_of_getElem? (i := 1014) (by decide +kernel)), rfl⟩
theorem t_1016 : (Jvm.Cond.instanceMethod ({ cls := "RangeSheetModel", name := "keepSetting", desc := "(I)V" } : Jvm.MethodName)) ∈ TW := List.mem_filter.mpr ⟨List.mem_append_right _ (List.mem_of_getElem? (i := 1016) (by decide +kernel)), rfl⟩
theorem t_1017 : (Jvm.Cond.code ({ cls := "RangeSheetModel", name := "keepSetting", desc := "(I)V" } : Jvm.MethodName) prog_16_method_44_code (3 : Nat) (Option.none : Option Jvm.ClassFile.FieldType)) ∈ TW := List.mem_filter.mpr ⟨List.mem_append_right _ (List.mem_of_getElem? (i := 1017) (by decide +kernel)), rfl⟩
theorem t_1018 : (Jvm.Cond.methodLink "RangeSheetModel" (227 : Nat) ({ cls := "RangeSheetModel", name := "follow", desc := "(II)Z" } : Jvm.MethodName)) ∈ TW := List.mem_filter.mpr ⟨List.mem_append_right _ (List.mem_of_getElem? (i := 1018) (by decide +kernel)), rfl⟩
theorem t_1020 : (Jvm.Cond.instanceMethod ({ cls := "RangeSheetModel", name := "follow", desc := "(II)Z" } : Jvm.MethodName)) ∈ TW := List.mem_filter.mpr ⟨List.mem_append_right _ (List.mem_of_getElem? (i := 1020) (by decide +kernel)), rfl⟩
theorem t_1021 : (Jvm.Cond.code ({ cls := "RangeSheetModel", name := "follow", desc := "(II)Z" } : Jvm.MethodName) prog_16_method_45_code (4 : Nat) (Option.some Jvm.ClassFile.FieldType.boolean)) ∈ TW := List.mem_filter.mpr ⟨List.mem_append_right _ (List.mem_of_getElem? (i := 1021) (by decide +kernel)), rfl⟩
theorem t_1022 : (Jvm.Cond.methodLink "RangeSheetLaw" (101 : Nat) ({ cls := "RangeSheetModel", name := "least", desc := "(II)I" } : Jvm.MethodName)) ∈ TW := List.mem_filter.mpr ⟨List.mem_append_right _ (List.mem_of_getElem? (i := 1022) (by decide +kernel)), rfl⟩
theorem t_1023 : (Jvm.Cond.instanceMethod ({ cls := "RangeSheetModel", name := "least", desc := "(II)I" } : Jvm.MethodName)) ∈ TW := List.mem_filter.mpr ⟨List.mem_append_right _ (List.mem_of_getElem? (i := 1023) (by decide +kernel)), rfl⟩
theorem t_1024 : (Jvm.Cond.selects "RangeSheetModel" ({ cls := "RangeSheetModel", name := "least", desc := "(II)I" } : Jvm.MethodName) ({ cls := "RangeSheetModel", name := "least", desc := "(II)I" } : Jvm.MethodName)) ∈ TW := List.mem_filter.mpr ⟨List.mem_append_right _ (List.mem_of_getElem? (i := 1024) (by decide +kernel)), rfl⟩
theorem t_1025 : (Jvm.Cond.code ({ cls := "RangeSheetModel", name := "least", desc := "(II)I" } : Jvm.MethodName) prog_16_method_49_code (3 : Nat) (Option.some Jvm.ClassFile.FieldType.int)) ∈ TW := List.mem_filter.mpr ⟨List.mem_append_right _ (List.mem_of_getElem? (i := 1025) (by decide +kernel)), rfl⟩
theorem t_1026 : (Jvm.Cond.methodLink "RangeSheetModel" (234 : Nat) ({ cls := "RangeSheetModel", name := "farthest", desc := "(IZI)I" } : Jvm.MethodName)) ∈ TW := List.mem_filter.mpr ⟨List.mem_append_right _ (List.mem_of_getElem? (i := 1026) (by decide +kernel)), rfl⟩
theorem t_1028 : (Jvm.Cond.instanceMethod ({ cls := "RangeSheetModel", name := "farthest", desc := "(IZI)I" } : Jvm.MethodName)) ∈ TW := List.mem_filter.mpr ⟨List.mem_append_right _ (List.mem_of_getElem? (i := 1028) (by decide +kernel)), rfl⟩
theorem t_1029 : (Jvm.Cond.code ({ cls := "RangeSheetModel", name := "farthest", desc := "(IZI)I" } : Jvm.MethodName) prog_16_method_48_code (4 : Nat) (Option.some Jvm.ClassFile.FieldType.int)) ∈ TW := List.mem_filter.mpr ⟨List.mem_append_right _ (List.mem_of_getElem? (i := 1029) (by decide +kernel)), rfl⟩
theorem t_1030 : (Jvm.Cond.methodLink "RangeSheetLaw" (104 : Nat) ({ cls := "RangeSheetModel", name := "greatest", desc := "(II)I" } : Jvm.MethodName)) ∈ TW := List.mem_filter.mpr ⟨List.mem_append_right _ (List.mem_of_getElem? (i := 1030) (by decide +kernel)), rfl⟩
theorem t_1031 : (Jvm.Cond.instanceMethod ({ cls := "RangeSheetModel", name := "greatest", desc := "(II)I" } : Jvm.MethodName)) ∈ TW := List.mem_filter.mpr ⟨List.mem_append_right _ (List.mem_of_getElem? (i := 1031) (by decide +kernel)), rfl⟩
theorem t_1032 : (Jvm.Cond.selects "RangeSheetModel" ({ cls := "RangeSheetModel", name := "greatest", desc := "(II)I" } : Jvm.MethodName) ({ cls := "RangeSheetModel", name := "greatest", desc := "(II)I" } : Jvm.MethodName)) ∈ TW := List.mem_filter.mpr ⟨List.mem_append_right _ (List.mem_of_getElem? (i := 1032) (by decide +kernel)), rfl⟩
theorem t_1033 : (Jvm.Cond.code ({ cls := "RangeSheetModel", name := "greatest", desc := "(II)I" } : Jvm.MethodName) prog_16_method_50_code (3 : Nat) (Option.some Jvm.ClassFile.FieldType.int)) ∈ TW := List.mem_filter.mpr ⟨List.mem_append_right _ (List.mem_of_getElem? (i := 1033) (by decide +kernel)), rfl⟩
theorem t_1034 : (Jvm.Cond.methodLink "RangeSheetLaw" (108 : Nat) ({ cls := "RangeSheetModel", name := "steps", desc := "()I" } : Jvm.MethodName)) ∈ TW := List.mem_filter.mpr ⟨List.mem_append_right _ (List.mem_of_getElem? (i := 1034) (by decide +kernel)), rfl⟩
theorem t_1035 : (Jvm.Cond.instanceMethod ({ cls := "RangeSheetModel", name := "steps", desc := "()I" } : Jvm.MethodName)) ∈ TW := List.mem_filter.mpr ⟨List.mem_append_right _ (List.mem_of_getElem? (i := 1035) (by decide +kernel)), rfl⟩
theorem t_1036 : (Jvm.Cond.selects "RangeSheetModel" ({ cls := "RangeSheetModel", name := "steps", desc := "()I" } : Jvm.MethodName) ({ cls := "RangeSheetModel", name := "steps", desc := "()I" } : Jvm.MethodName)) ∈ TW := List.mem_filter.mpr ⟨List.mem_append_right _ (List.mem_of_getElem? (i := 1036) (by decide +kernel)), rfl⟩
theorem t_1037 : (Jvm.Cond.code ({ cls := "RangeSheetModel", name := "steps", desc := "()I" } : Jvm.MethodName) prog_16_method_51_code (1 : Nat) (Option.some Jvm.ClassFile.FieldType.int)) ∈ TW := List.mem_filter.mpr ⟨List.mem_append_right _ (List.mem_of_getElem? (i := 1037) (by decide +kernel)), rfl⟩
theorem t_1038 : (Jvm.Cond.methodLink "RangeSheetLaw" (112 : Nat) ({ cls := "RangeSheetModel", name := "value", desc := "(I)I" } : Jvm.MethodName)) ∈ TW := List.mem_filter.mpr ⟨List.mem_append_right _ (List.mem_of_getElem? (i := 1038) (by decide +kernel)), rfl⟩
theorem t_1039 : (Jvm.Cond.instanceMethod ({ cls := "RangeSheetModel", name := "value", desc := "(I)I" } : Jvm.MethodName)) ∈ TW := List.mem_filter.mpr ⟨List.mem_append_right _ (List.mem_of_getElem? (i := 1039) (by decide +kernel)), rfl⟩
theorem t_1040 : (Jvm.Cond.selects "RangeSheetModel" ({ cls := "RangeSheetModel", name := "value", desc := "(I)I" } : Jvm.MethodName) ({ cls := "RangeSheetModel", name := "value", desc := "(I)I" } : Jvm.MethodName)) ∈ TW := List.mem_filter.mpr ⟨List.mem_append_right _ (List.mem_of_getElem? (i := 1040) (by decide +kernel)), rfl⟩
theorem t_1041 : (Jvm.Cond.code ({ cls := "RangeSheetModel", name := "value", desc := "(I)I" } : Jvm.MethodName) prog_16_method_52_code (2 : Nat) (Option.some Jvm.ClassFile.FieldType.int)) ∈ TW := List.mem_filter.mpr ⟨List.mem_append_right _ (List.mem_of_getElem? (i := 1041) (by decide +kernel)), rfl⟩
theorem t_1042 : (Jvm.Cond.methodLink "RangeSheetLaw" (117 : Nat) ({ cls := "RangeSheetModel", name := "satisfied", desc := "(I)Z" } : Jvm.MethodName)) ∈ TW := List.mem_filter.mpr ⟨List.mem_append_right _ (List.mem_of_getElem? (i := 1042) (by decide +kernel)), rfl⟩
theorem t_1043 : (Jvm.Cond.instanceMethod ({ cls := "RangeSheetModel", name := "satisfied", desc := "(I)Z" } : Jvm.MethodName)) ∈ TW := List.mem_filter.mpr ⟨List.mem_append_right _ (List.mem_of_getElem? (i := 1043) (by decide +kernel)), rfl⟩
theorem t_1044 : (Jvm.Cond.selects "RangeSheetModel" ({ cls := "RangeSheetModel", name := "satisfied", desc := "(I)Z" } : Jvm.MethodName) ({ cls := "RangeSheetModel", name := "satisfied", desc := "(I)Z" } : Jvm.MethodName)) ∈ TW := List.mem_filter.mpr ⟨List.mem_append_right _ (List.mem_of_getElem? (i := 1044) (by decide +kernel)), rfl⟩
theorem t_1045 : (Jvm.Cond.code ({ cls := "RangeSheetModel", name := "satisfied", desc := "(I)Z" } : Jvm.MethodName) prog_16_method_55_code (6 : Nat) (Option.some Jvm.ClassFile.FieldType.boolean)) ∈ TW := List.mem_filter.mpr ⟨List.mem_append_right _ (List.mem_of_getElem? (i := 1045) (by decide +kernel)), rfl⟩
theorem t_1046 : (Jvm.Cond.methodLink "RangeSheetModel" (237 : Nat) ({ cls := "RangeSheetModel", name := "isDifferent", desc := "(I)Z" } : Jvm.MethodName)) ∈ TW := List.mem_filter.mpr ⟨List.mem_append_right _ (List.mem_of_getElem? (i := 1046) (by decide +kernel)), rfl⟩
theorem t_1048 : (Jvm.Cond.instanceMethod ({ cls := "RangeSheetModel", name := "isDifferent", desc := "(I)Z" } : Jvm.MethodName)) ∈ TW := List.mem_filter.mpr ⟨List.mem_append_right _ (List.mem_of_getElem? (i := 1048) (by decide +kernel)), rfl⟩
theorem t_1049 : (Jvm.Cond.code ({ cls := "RangeSheetModel", name := "isDifferent", desc := "(I)Z" } : Jvm.MethodName) prog_16_method_53_code (4 : Nat) (Option.some Jvm.ClassFile.FieldType.boolean)) ∈ TW := List.mem_filter.mpr ⟨List.mem_append_right _ (List.mem_of_getElem? (i := 1049) (by decide +kernel)), rfl⟩
theorem t_1050 : (Jvm.Cond.methodLink "RangeSheetModel" (240 : Nat) ({ cls := "RangeSheetModel", name := "isRow", desc := "(III)Z" } : Jvm.MethodName)) ∈ TW := List.mem_filter.mpr ⟨List.mem_append_right _ (List.mem_of_getElem? (i := 1050) (by decide +kernel)), rfl⟩
theorem t_1052 : (Jvm.Cond.instanceMethod ({ cls := "RangeSheetModel", name := "isRow", desc := "(III)Z" } : Jvm.MethodName)) ∈ TW := List.mem_filter.mpr ⟨List.mem_append_right _ (List.mem_of_getElem? (i := 1052) (by decide +kernel)), rfl⟩
theorem t_1053 : (Jvm.Cond.code ({ cls := "RangeSheetModel", name := "isRow", desc := "(III)Z" } : Jvm.MethodName) prog_16_method_54_code (6 : Nat) (Option.some Jvm.ClassFile.FieldType.boolean)) ∈ TW := List.mem_filter.mpr ⟨List.mem_append_right _ (List.mem_of_getElem? (i := 1053) (by decide +kernel)), rfl⟩
theorem t_1054 : (Jvm.Cond.arrayClass Jvm.ClassFile.FieldType.long) ∈ TW := List.mem_filter.mpr ⟨List.mem_append_right _ (List.mem_of_getElem? (i := 1054) (by decide +kernel)), rfl⟩
theorem t_1055 : (Jvm.Cond.sameMethod "java/lang/Throwable" "java/lang/Throwable" "fillInStackTrace" "(I)Ljava/lang/Throwable;") ∈ TW := List.mem_filter.mpr ⟨List.mem_append_right _ (List.mem_of_getElem? (i := 1055) (by decide +kernel)), rfl⟩
theorem t_1056 : (Jvm.Cond.castable "RangeSheet$AtMost" "RangeSheet$Relation") ∈ TW := List.mem_filter.mpr ⟨List.mem_append_right _ (List.mem_of_getElem? (i := 1056) (by decide +kernel)), rfl⟩
theorem t_1057 : (Jvm.Cond.castable "RangeSheet$Different" "RangeSheet$Relation") ∈ TW := List.mem_filter.mpr ⟨List.mem_append_right _ (List.mem_of_getElem? (i := 1057) (by decide +kernel)), rfl⟩
theorem t_1058 : (Jvm.Cond.castable "RangeSheet$Greater" "RangeSheet$Relation") ∈ TW := List.mem_filter.mpr ⟨List.mem_append_right _ (List.mem_of_getElem? (i := 1058) (by decide +kernel)), rfl⟩
theorem t_1059 : (Jvm.Cond.castable "RangeSheet$If" "RangeSheet$Relation") ∈ TW := List.mem_filter.mpr ⟨List.mem_append_right _ (List.mem_of_getElem? (i := 1059) (by decide +kernel)), rfl⟩
theorem t_1060 : (Jvm.Cond.castable "RangeSheet$Lesser" "RangeSheet$Relation") ∈ TW := List.mem_filter.mpr ⟨List.mem_append_right _ (List.mem_of_getElem? (i := 1060) (by decide +kernel)), rfl⟩
theorem t_1061 : (Jvm.Cond.castable "RangeSheet$Lookup" "RangeSheet$Relation") ∈ TW := List.mem_filter.mpr ⟨List.mem_append_right _ (List.mem_of_getElem? (i := 1061) (by decide +kernel)), rfl⟩
theorem t_1062 : (Jvm.Cond.castable "RangeSheet$Product" "RangeSheet$Relation") ∈ TW := List.mem_filter.mpr ⟨List.mem_append_right _ (List.mem_of_getElem? (i := 1062) (by decide +kernel)), rfl⟩
theorem t_1063 : (Jvm.Cond.castable "RangeSheet$Quotient" "RangeSheet$Relation") ∈ TW := List.mem_filter.mpr ⟨List.mem_append_right _ (List.mem_of_getElem? (i := 1063) (by decide +kernel)), rfl⟩
theorem t_1064 : (Jvm.Cond.castable "RangeSheet$Sum" "RangeSheet$Relation") ∈ TW := List.mem_filter.mpr ⟨List.mem_append_right _ (List.mem_of_getElem? (i := 1064) (by decide +kernel)), rfl⟩
theorem ts_0 : Cond.selects "RangeSheet" ({ cls := "RangeSheet", name := "narrowWith", desc := "(I)Z" } : Jvm.MethodName) ({ cls := "RangeSheet", name := "narrowWith", desc := "(I)Z" } : Jvm.MethodName) ∈ TW := List.mem_filter.mpr ⟨List.mem_append_left _ (List.mem_of_getElem? (i := 0) (by decide +kernel)), rfl⟩
theorem ts_1 : Cond.selects "RangeSheet" ({ cls := "RangeSheet", name := "settle", desc := "(LRangeSheet$Box;)Z" } : Jvm.MethodName) ({ cls := "RangeSheet", name := "settle", desc := "(LRangeSheet$Box;)Z" } : Jvm.MethodName) ∈ TW := List.mem_filter.mpr ⟨List.mem_append_left _ (List.mem_of_getElem? (i := 1) (by decide +kernel)), rfl⟩
theorem ts_2 : Cond.selects "RangeSheet$Different" ({ cls := "RangeSheet$Different", name := "round", desc := "(LRangeSheet$Box;)Z" } : Jvm.MethodName) ({ cls := "RangeSheet$Different", name := "round", desc := "(LRangeSheet$Box;)Z" } : Jvm.MethodName) ∈ TW := List.mem_filter.mpr ⟨List.mem_append_left _ (List.mem_of_getElem? (i := 2) (by decide +kernel)), rfl⟩
theorem ts_3 : Cond.selects "RangeSheet$Different" ({ cls := "RangeSheet$Different", name := "has", desc := "(I)Z" } : Jvm.MethodName) ({ cls := "RangeSheet$Different", name := "has", desc := "(I)Z" } : Jvm.MethodName) ∈ TW := List.mem_filter.mpr ⟨List.mem_append_left _ (List.mem_of_getElem? (i := 3) (by decide +kernel)), rfl⟩
theorem ts_4 : Cond.selects "RangeSheet$Different" ({ cls := "RangeSheet$Different", name := "fill", desc := "(LRangeSheet$Box;II)Z" } : Jvm.MethodName) ({ cls := "RangeSheet$Different", name := "fill", desc := "(LRangeSheet$Box;II)Z" } : Jvm.MethodName) ∈ TW := List.mem_filter.mpr ⟨List.mem_append_left _ (List.mem_of_getElem? (i := 4) (by decide +kernel)), rfl⟩
theorem ts_5 : Cond.selects "RangeSheet$Different" ({ cls := "RangeSheet$Different", name := "isWithin", desc := "(LRangeSheet$Box;III)Z" } : Jvm.MethodName) ({ cls := "RangeSheet$Different", name := "isWithin", desc := "(LRangeSheet$Box;III)Z" } : Jvm.MethodName) ∈ TW := List.mem_filter.mpr ⟨List.mem_append_left _ (List.mem_of_getElem? (i := 5) (by decide +kernel)), rfl⟩
theorem ts_6 : Cond.selects "RangeSheet$Lookup" ({ cls := "RangeSheet$Lookup", name := "fits", desc := "(LRangeSheet$Box;I)Z" } : Jvm.MethodName) ({ cls := "RangeSheet$Lookup", name := "fits", desc := "(LRangeSheet$Box;I)Z" } : Jvm.MethodName) ∈ TW := List.mem_filter.mpr ⟨List.mem_append_left _ (List.mem_of_getElem? (i := 6) (by decide +kernel)), rfl⟩
theorem ts_8 : Cond.selects "RangeSheet" ({ cls := "RangeSheet", name := "isGood", desc := "(IIII)Z" } : Jvm.MethodName) ({ cls := "RangeSheet", name := "isGood", desc := "(IIII)Z" } : Jvm.MethodName) ∈ TW := List.mem_filter.mpr ⟨List.mem_append_left _ (List.mem_of_getElem? (i := 8) (by decide +kernel)), rfl⟩
theorem ts_9 : Cond.selects "RangeSheet" ({ cls := "RangeSheet", name := "isCell", desc := "(I)Z" } : Jvm.MethodName) ({ cls := "RangeSheet", name := "isCell", desc := "(I)Z" } : Jvm.MethodName) ∈ TW := List.mem_filter.mpr ⟨List.mem_append_left _ (List.mem_of_getElem? (i := 9) (by decide +kernel)), rfl⟩
theorem ts_10 : Cond.selects "RangeSheet" ({ cls := "RangeSheet", name := "make", desc := "(IIII)LRangeSheet$Relation;" } : Jvm.MethodName) ({ cls := "RangeSheet", name := "make", desc := "(IIII)LRangeSheet$Relation;" } : Jvm.MethodName) ∈ TW := List.mem_filter.mpr ⟨List.mem_append_left _ (List.mem_of_getElem? (i := 10) (by decide +kernel)), rfl⟩
theorem ts_11 : Cond.selects "RangeSheet" ({ cls := "RangeSheet", name := "bound", desc := "(IZ)I" } : Jvm.MethodName) ({ cls := "RangeSheet", name := "bound", desc := "(IZ)I" } : Jvm.MethodName) ∈ TW := List.mem_filter.mpr ⟨List.mem_append_left _ (List.mem_of_getElem? (i := 11) (by decide +kernel)), rfl⟩
theorem ts_12 : Cond.selects "RangeSheet" ({ cls := "RangeSheet", name := "begin", desc := "(IZI)I" } : Jvm.MethodName) ({ cls := "RangeSheet", name := "begin", desc := "(IZI)I" } : Jvm.MethodName) ∈ TW := List.mem_filter.mpr ⟨List.mem_append_left _ (List.mem_of_getElem? (i := 12) (by decide +kernel)), rfl⟩
theorem ts_13 : Cond.selects "RangeSheet" ({ cls := "RangeSheet", name := "search", desc := "(I)I" } : Jvm.MethodName) ({ cls := "RangeSheet", name := "search", desc := "(I)I" } : Jvm.MethodName) ∈ TW := List.mem_filter.mpr ⟨List.mem_append_left _ (List.mem_of_getElem? (i := 13) (by decide +kernel)), rfl⟩
theorem ts_14 : Cond.selects "RangeSheet" ({ cls := "RangeSheet", name := "open", desc := "(LRangeSheet$Box;)I" } : Jvm.MethodName) ({ cls := "RangeSheet", name := "open", desc := "(LRangeSheet$Box;)I" } : Jvm.MethodName) ∈ TW := List.mem_filter.mpr ⟨List.mem_append_left _ (List.mem_of_getElem? (i := 14) (by decide +kernel)), rfl⟩
theorem ts_15 : Cond.selects "RangeSheet" ({ cls := "RangeSheet", name := "extreme", desc := "(IZI)I" } : Jvm.MethodName) ({ cls := "RangeSheet", name := "extreme", desc := "(IZI)I" } : Jvm.MethodName) ∈ TW := List.mem_filter.mpr ⟨List.mem_append_left _ (List.mem_of_getElem? (i := 15) (by decide +kernel)), rfl⟩
theorem ts_16 : Cond.selects "RangeSheetModel" ({ cls := "RangeSheetModel", name := "refuse", desc := "(I)I" } : Jvm.MethodName) ({ cls := "RangeSheetModel", name := "refuse", desc := "(I)I" } : Jvm.MethodName) ∈ TW := List.mem_filter.mpr ⟨List.mem_append_left _ (List.mem_of_getElem? (i := 16) (by decide +kernel)), rfl⟩
theorem ts_17 : Cond.selects "RangeSheetModel" ({ cls := "RangeSheetModel", name := "isRelation", desc := "(IIII)Z" } : Jvm.MethodName) ({ cls := "RangeSheetModel", name := "isRelation", desc := "(IIII)Z" } : Jvm.MethodName) ∈ TW := List.mem_filter.mpr ⟨List.mem_append_left _ (List.mem_of_getElem? (i := 17) (by decide +kernel)), rfl⟩
theorem ts_18 : Cond.selects "RangeSheetModel" ({ cls := "RangeSheetModel", name := "isCell", desc := "(I)Z" } : Jvm.MethodName) ({ cls := "RangeSheetModel", name := "isCell", desc := "(I)Z" } : Jvm.MethodName) ∈ TW := List.mem_filter.mpr ⟨List.mem_append_left _ (List.mem_of_getElem? (i := 18) (by decide +kernel)), rfl⟩
theorem ts_19 : Cond.selects "RangeSheetModel" ({ cls := "RangeSheetModel", name := "narrowWith", desc := "(I)Z" } : Jvm.MethodName) ({ cls := "RangeSheetModel", name := "narrowWith", desc := "(I)Z" } : Jvm.MethodName) ∈ TW := List.mem_filter.mpr ⟨List.mem_append_left _ (List.mem_of_getElem? (i := 19) (by decide +kernel)), rfl⟩
theorem ts_20 : Cond.selects "RangeSheetModel" ({ cls := "RangeSheetModel", name := "cut", desc := "(IIII)Z" } : Jvm.MethodName) ({ cls := "RangeSheetModel", name := "cut", desc := "(IIII)Z" } : Jvm.MethodName) ∈ TW := List.mem_filter.mpr ⟨List.mem_append_left _ (List.mem_of_getElem? (i := 20) (by decide +kernel)), rfl⟩
theorem ts_21 : Cond.selects "RangeSheetModel" ({ cls := "RangeSheetModel", name := "settle", desc := "(I)Z" } : Jvm.MethodName) ({ cls := "RangeSheetModel", name := "settle", desc := "(I)Z" } : Jvm.MethodName) ∈ TW := List.mem_filter.mpr ⟨List.mem_append_left _ (List.mem_of_getElem? (i := 21) (by decide +kernel)), rfl⟩
theorem ts_22 : Cond.selects "RangeSheetModel" ({ cls := "RangeSheetModel", name := "narrowBy", desc := "(II)Z" } : Jvm.MethodName) ({ cls := "RangeSheetModel", name := "narrowBy", desc := "(II)Z" } : Jvm.MethodName) ∈ TW := List.mem_filter.mpr ⟨List.mem_append_left _ (List.mem_of_getElem? (i := 22) (by decide +kernel)), rfl⟩
theorem ts_23 : Cond.selects "RangeSheetModel" ({ cls := "RangeSheetModel", name := "different", desc := "(II)Z" } : Jvm.MethodName) ({ cls := "RangeSheetModel", name := "different", desc := "(II)Z" } : Jvm.MethodName) ∈ TW := List.mem_filter.mpr ⟨List.mem_append_left _ (List.mem_of_getElem? (i := 23) (by decide +kernel)), rfl⟩
theorem ts_24 : Cond.selects "RangeSheetModel" ({ cls := "RangeSheetModel", name := "seats", desc := "(IIII)Z" } : Jvm.MethodName) ({ cls := "RangeSheetModel", name := "seats", desc := "(IIII)Z" } : Jvm.MethodName) ∈ TW := List.mem_filter.mpr ⟨List.mem_append_left _ (List.mem_of_getElem? (i := 24) (by decide +kernel)), rfl⟩
theorem ts_25 : Cond.selects "RangeSheetModel" ({ cls := "RangeSheetModel", name := "lookup", desc := "(IIII)Z" } : Jvm.MethodName) ({ cls := "RangeSheetModel", name := "lookup", desc := "(IIII)Z" } : Jvm.MethodName) ∈ TW := List.mem_filter.mpr ⟨List.mem_append_left _ (List.mem_of_getElem? (i := 25) (by decide +kernel)), rfl⟩
theorem ts_26 : Cond.selects "RangeSheetModel" ({ cls := "RangeSheetModel", name := "clearEnds", desc := "()V" } : Jvm.MethodName) ({ cls := "RangeSheetModel", name := "clearEnds", desc := "()V" } : Jvm.MethodName) ∈ TW := List.mem_filter.mpr ⟨List.mem_append_left _ (List.mem_of_getElem? (i := 26) (by decide +kernel)), rfl⟩
theorem ts_27 : Cond.selects "RangeSheetModel" ({ cls := "RangeSheetModel", name := "note", desc := "(IIII)V" } : Jvm.MethodName) ({ cls := "RangeSheetModel", name := "note", desc := "(IIII)V" } : Jvm.MethodName) ∈ TW := List.mem_filter.mpr ⟨List.mem_append_left _ (List.mem_of_getElem? (i := 27) (by decide +kernel)), rfl⟩
theorem ts_28 : Cond.selects "RangeSheetModel" ({ cls := "RangeSheetModel", name := "atMost", desc := "(IIII)Z" } : Jvm.MethodName) ({ cls := "RangeSheetModel", name := "atMost", desc := "(IIII)Z" } : Jvm.MethodName) ∈ TW := List.mem_filter.mpr ⟨List.mem_append_left _ (List.mem_of_getElem? (i := 28) (by decide +kernel)), rfl⟩
theorem ts_29 : Cond.selects "RangeSheetModel" ({ cls := "RangeSheetModel", name := "byPairs", desc := "(II)Z" } : Jvm.MethodName) ({ cls := "RangeSheetModel", name := "byPairs", desc := "(II)Z" } : Jvm.MethodName) ∈ TW := List.mem_filter.mpr ⟨List.mem_append_left _ (List.mem_of_getElem? (i := 29) (by decide +kernel)), rfl⟩
theorem ts_30 : Cond.selects "RangeSheetModel" ({ cls := "RangeSheetModel", name := "sum", desc := "(IIII)Z" } : Jvm.MethodName) ({ cls := "RangeSheetModel", name := "sum", desc := "(IIII)Z" } : Jvm.MethodName) ∈ TW := List.mem_filter.mpr ⟨List.mem_append_left _ (List.mem_of_getElem? (i := 30) (by decide +kernel)), rfl⟩
theorem ts_31 : Cond.selects "RangeSheetModel" ({ cls := "RangeSheetModel", name := "implies", desc := "(IIII)Z" } : Jvm.MethodName) ({ cls := "RangeSheetModel", name := "implies", desc := "(IIII)Z" } : Jvm.MethodName) ∈ TW := List.mem_filter.mpr ⟨List.mem_append_left _ (List.mem_of_getElem? (i := 31) (by decide +kernel)), rfl⟩
theorem ts_32 : Cond.selects "RangeSheetModel" ({ cls := "RangeSheetModel", name := "extreme", desc := "(IIIIZ)Z" } : Jvm.MethodName) ({ cls := "RangeSheetModel", name := "extreme", desc := "(IIIIZ)Z" } : Jvm.MethodName) ∈ TW := List.mem_filter.mpr ⟨List.mem_append_left _ (List.mem_of_getElem? (i := 32) (by decide +kernel)), rfl⟩
theorem ts_33 : Cond.selects "RangeSheetModel" ({ cls := "RangeSheetModel", name := "thirdSide", desc := "(IIIIII)Z" } : Jvm.MethodName) ({ cls := "RangeSheetModel", name := "thirdSide", desc := "(IIIIII)Z" } : Jvm.MethodName) ∈ TW := List.mem_filter.mpr ⟨List.mem_append_left _ (List.mem_of_getElem? (i := 33) (by decide +kernel)), rfl⟩
theorem ts_34 : Cond.selects "RangeSheetModel" ({ cls := "RangeSheetModel", name := "extremeSide", desc := "(IIIIZ)Z" } : Jvm.MethodName) ({ cls := "RangeSheetModel", name := "extremeSide", desc := "(IIIIZ)Z" } : Jvm.MethodName) ∈ TW := List.mem_filter.mpr ⟨List.mem_append_left _ (List.mem_of_getElem? (i := 34) (by decide +kernel)), rfl⟩
theorem ts_35 : Cond.selects "RangeSheetModel" ({ cls := "RangeSheetModel", name := "search", desc := "(IZI)I" } : Jvm.MethodName) ({ cls := "RangeSheetModel", name := "search", desc := "(IZI)I" } : Jvm.MethodName) ∈ TW := List.mem_filter.mpr ⟨List.mem_append_left _ (List.mem_of_getElem? (i := 35) (by decide +kernel)), rfl⟩
theorem ts_36 : Cond.selects "RangeSheetModel" ({ cls := "RangeSheetModel", name := "openCell", desc := "(II)I" } : Jvm.MethodName) ({ cls := "RangeSheetModel", name := "openCell", desc := "(II)I" } : Jvm.MethodName) ∈ TW := List.mem_filter.mpr ⟨List.mem_append_left _ (List.mem_of_getElem? (i := 36) (by decide +kernel)), rfl⟩
theorem ts_37 : Cond.selects "RangeSheetModel" ({ cls := "RangeSheetModel", name := "keepSetting", desc := "(I)V" } : Jvm.MethodName) ({ cls := "RangeSheetModel", name := "keepSetting", desc := "(I)V" } : Jvm.MethodName) ∈ TW := List.mem_filter.mpr ⟨List.mem_append_left _ (List.mem_of_getElem? (i := 37) (by decide +kernel)), rfl⟩
theorem ts_38 : Cond.selects "RangeSheetModel" ({ cls := "RangeSheetModel", name := "follow", desc := "(II)Z" } : Jvm.MethodName) ({ cls := "RangeSheetModel", name := "follow", desc := "(II)Z" } : Jvm.MethodName) ∈ TW := List.mem_filter.mpr ⟨List.mem_append_left _ (List.mem_of_getElem? (i := 38) (by decide +kernel)), rfl⟩
theorem ts_39 : Cond.selects "RangeSheetModel" ({ cls := "RangeSheetModel", name := "farthest", desc := "(IZI)I" } : Jvm.MethodName) ({ cls := "RangeSheetModel", name := "farthest", desc := "(IZI)I" } : Jvm.MethodName) ∈ TW := List.mem_filter.mpr ⟨List.mem_append_left _ (List.mem_of_getElem? (i := 39) (by decide +kernel)), rfl⟩
theorem ts_40 : Cond.selects "RangeSheetModel" ({ cls := "RangeSheetModel", name := "isDifferent", desc := "(I)Z" } : Jvm.MethodName) ({ cls := "RangeSheetModel", name := "isDifferent", desc := "(I)Z" } : Jvm.MethodName) ∈ TW := List.mem_filter.mpr ⟨List.mem_append_left _ (List.mem_of_getElem? (i := 40) (by decide +kernel)), rfl⟩
theorem ts_41 : Cond.selects "RangeSheetModel" ({ cls := "RangeSheetModel", name := "isRow", desc := "(III)Z" } : Jvm.MethodName) ({ cls := "RangeSheetModel", name := "isRow", desc := "(III)Z" } : Jvm.MethodName) ∈ TW := List.mem_filter.mpr ⟨List.mem_append_left _ (List.mem_of_getElem? (i := 41) (by decide +kernel)), rfl⟩
