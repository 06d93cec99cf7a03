/-! FACTS of the entries that the code names (printed by wip/D-80403w/tools/gen.py) -/
set_option maxRecDepth 100000
theorem xw_t {w : Cond} (h : w ∈ lw_tbl) (k : kwd w = true) : w ∈ xW := List.mem_filter.mpr ⟨List.mem_append_left _ h, k⟩
theorem xw_a {w : Cond} (h : w ∈ lw_all) (k : kwd w = true) : w ∈ xW := xw_t (lw_all_tbl h) k
abbrev wX0_init : List Cond := ws_ yX0_init cX0_init 2 none
abbrev wX0_act : List Cond := ws_ yX0_act cX0_act 6 (some .int)
abbrev wX0_acts : List Cond := ws_ yX0_acts cX0_acts 8 none
abbrev wX0_ahead : List Cond := ws_ yX0_ahead cX0_ahead 3 (some .int)
abbrev wX0_alike : List Cond := ws_ yX0_alike cX0_alike 5 (some .int)
abbrev wX0_as : List Cond := ws_ yX0_as cX0_as 2 (some (.object "java/lang/Object"))
abbrev wX0_becomes : List Cond := ws_ yX0_becomes cX0_becomes 4 none
abbrev hX0_begins : List (Nat × Nat × Nat × Nat) := [((12), (38), (78), (0))]
abbrev wX0_begins : List Cond := wsW_ yX0_begins cX0_begins 4 none hX0_begins
abbrev wX0_behind : List Cond := ws_ yX0_behind cX0_behind 6 (some (.object "ThrowReports$Ways"))
abbrev wX0_both : List Cond := ws_ yX0_both cX0_both 5 (some .int)
abbrev wX0_cameOf : List Cond := ws_ yX0_cameOf cX0_cameOf 7 (some .int)
abbrev wX0_choice : List Cond := ws_ yX0_choice cX0_choice 7 (some .int)
abbrev wX0_clear : List Cond := ws_ yX0_clear cX0_clear 3 (some .int)
abbrev hX0_copies : List (Nat × Nat × Nat × Nat) := [((3), (22), (54), (0)), ((54), (56), (54), (0))]
abbrev wX0_copies : List Cond := wsW_ yX0_copies cX0_copies 8 none hX0_copies
abbrev wX0_count : List Cond := ws_ yX0_count cX0_count 2 (some .int)
abbrev wX0_deep : List Cond := ws_ yX0_deep cX0_deep 10 none
abbrev wX0_does : List Cond := ws_ yX0_does cX0_does 3 none
abbrev hX0_ends : List (Nat × Nat × Nat × Nat) := [((12), (19), (44), (0)), ((44), (46), (44), (0))]
abbrev wX0_ends : List Cond := wsW_ yX0_ends cX0_ends 5 none hX0_ends
abbrev wX0_forget : List Cond := ws_ yX0_forget cX0_forget 2 (some .int)
abbrev wX0_given : List Cond := ws_ yX0_given cX0_given 4 (some .int)
abbrev wX0_got : List Cond := ws_ yX0_got cX0_got 3 (some .long)
abbrev wX0_guard : List Cond := ws_ yX0_guard cX0_guard 7 (some .int)
abbrev wX0_guarded : List Cond := ws_ yX0_guarded cX0_guarded 4 (some .int)
abbrev hX0_guards : List (Nat × Nat × Nat × Nat) := [((2), (9), (28), (0))]
abbrev wX0_guards : List Cond := wsW_ yX0_guards cX0_guards 4 none hX0_guards
abbrev wX0_handles : List Cond := ws_ yX0_handles cX0_handles 4 none
abbrev wX0_has : List Cond := ws_ yX0_has cX0_has 4 (some .boolean)
abbrev wX0_in : List Cond := ws_ yX0_in cX0_in 3 (some .boolean)
abbrev wX0_is : List Cond := ws_ yX0_is cX0_is 2 (some .boolean)
abbrev wX0_isAct : List Cond := ws_ yX0_isAct cX0_isAct 5 (some .boolean)
abbrev wX0_isAlike : List Cond := ws_ yX0_isAlike cX0_isAlike 6 (some .boolean)
abbrev wX0_isNode : List Cond := ws_ yX0_isNode cX0_isNode 2 (some .boolean)
abbrev wX0_isRegister : List Cond := ws_ yX0_isRegister cX0_isRegister 1 (some .boolean)
abbrev wX0_isSlot : List Cond := ws_ yX0_isSlot cX0_isSlot 1 (some .boolean)
abbrev wX0_item : List Cond := ws_ yX0_item cX0_item 5 (some .long)
abbrev wX0_lays : List Cond := ws_ yX0_lays cX0_lays 10 none
abbrev wX0_lengthOf : List Cond := ws_ yX0_lengthOf cX0_lengthOf 2 (some .int)
abbrev wX0_loaded : List Cond := ws_ yX0_loaded cX0_loaded 2 (some .double)
abbrev wX0_makes : List Cond := ws_ yX0_makes cX0_makes 5 none
abbrev wX0_may : List Cond := ws_ yX0_may cX0_may 2 (some .int)
abbrev wX0_mayUnlike : List Cond := ws_ yX0_mayUnlike cX0_mayUnlike 6 (some .boolean)
abbrev wX0_meet : List Cond := ws_ yX0_meet cX0_meet 2 (some .boolean)
abbrev wX0_meeting : List Cond := ws_ yX0_meeting cX0_meeting 5 (some .int)
abbrev wX0_more : List Cond := ws_ yX0_more cX0_more 2 (some .int)
abbrev wX0_need : List Cond := ws_ yX0_need cX0_need 5 none
abbrev wX0_numberOf : List Cond := ws_ yX0_numberOf cX0_numberOf 3 (some .int)
abbrev wX0_ofAct : List Cond := ws_ yX0_ofAct cX0_ofAct 3 (some (.object "ThrowReports$Ways"))
abbrev wX0_ofBoth : List Cond := ws_ yX0_ofBoth cX0_ofBoth 5 (some (.object "ThrowReports$Ways"))
abbrev wX0_ofChoice : List Cond := ws_ yX0_ofChoice cX0_ofChoice 6 (some (.object "ThrowReports$Ways"))
abbrev wX0_ofCopy : List Cond := ws_ yX0_ofCopy cX0_ofCopy 7 (some (.object "ThrowReports$Ways"))
abbrev wX0_ofGuard : List Cond := ws_ yX0_ofGuard cX0_ofGuard 6 (some (.object "ThrowReports$Ways"))
abbrev wX0_ran : List Cond := ws_ yX0_ran cX0_ran 2 (some .int)
abbrev wX0_reached : List Cond := ws_ yX0_reached cX0_reached 2 (some .int)
abbrev wX0_register : List Cond := ws_ yX0_register cX0_register 2 (some .long)
abbrev wX0_report : List Cond := ws_ yX0_report cX0_report 3 (some .int)
abbrev hX0_run : List (Nat × Nat × Nat × Nat) := [((40), (51), (52), (148)), ((40), (51), (55), (150)), ((40), (51), (58), (152)), ((40), (51), (61), (154)), ((40), (51), (64), (156)), ((40), (51), (67), (158)), ((40), (51), (71), (160)), ((40), (51), (75), (58))]
abbrev wX0_run : List Cond := wsW_ yX0_run cX0_run 3 (some .int) hX0_run
abbrev wX0_sameInts : List Cond := ws_ yX0_sameInts cX0_sameInts 4 (some .boolean)
abbrev wX0_sets : List Cond := ws_ yX0_sets cX0_sets 5 none
abbrev wX0_slot : List Cond := ws_ yX0_slot cX0_slot 4 (some .int)
abbrev wX0_stores : List Cond := ws_ yX0_stores cX0_stores 7 (some (.object "ThrowReports$Ways"))
abbrev hX0_takes : List (Nat × Nat × Nat × Nat) := [((0), (8), (11), (148)), ((0), (8), (22), (150)), ((0), (8), (33), (152)), ((0), (8), (44), (154)), ((0), (8), (55), (156)), ((0), (8), (66), (158)), ((0), (8), (78), (160)), ((0), (8), (90), (58))]
abbrev wX0_takes : List Cond := wsW_ yX0_takes cX0_takes 3 none hX0_takes
abbrev wX0_takesItem : List Cond := ws_ yX0_takesItem cX0_takesItem 5 none
abbrev wX0_thatAre : List Cond := ws_ yX0_thatAre cX0_thatAre 4 (some .int)
abbrev wX0_through : List Cond := ws_ yX0_through cX0_through 4 (some (.object "ThrowReports$Ways"))
abbrev wX0_together : List Cond := ws_ yX0_together cX0_together 4 (some (.object "ThrowReports$State"))
abbrev wX6_init : List Cond := ws_ yX6_init cX6_init 2 none
abbrev wX6_number : List Cond := ws_ yX6_number cX6_number 1 (some .int)
abbrev wX2_init : List Cond := ws_ yX2_init cX2_init 1 none
abbrev wX2_isRow : List Cond := ws_ yX2_isRow cX2_isRow 1 (some .boolean)
abbrev wX2_kind : List Cond := ws_ yX2_kind cX2_kind 2 (some .int)
abbrev wX2_size : List Cond := ws_ yX2_size cX2_size 1 (some .int)
abbrev wX4_init : List Cond := ws_ yX4_init cX4_init 8 none
abbrev wX4_forget : List Cond := ws_ yX4_forget cX4_forget 2 none
abbrev wX4_takes : List Cond := ws_ yX4_takes cX4_takes 2 (some .boolean)
abbrev wX8_init : List Cond := ws_ yX8_init cX8_init 1 none
abbrev wX9_init : List Cond := ws_ yX9_init cX9_init 2 none
abbrev wX9_anew : List Cond := ws_ yX9_anew cX9_anew 3 (some (.object "ThrowReports$Ways"))
abbrev wX9_as : List Cond := ws_ yX9_as cX9_as 3 (some (.object "ThrowReports$Questions"))
abbrev wX9_end : List Cond := ws_ yX9_end cX9_end 1 (some (.object "ThrowReports$Ways"))
abbrev wX9_may : List Cond := ws_ yX9_may cX9_may 2 (some (.object "ThrowReports$Questions"))
abbrev wX9_parts : List Cond := ws_ yX9_parts cX9_parts 5 none
abbrev wX9_set : List Cond := ws_ yX9_set cX9_set 2 (some .int)
abbrev wX9_size : List Cond := ws_ yX9_size cX9_size 2 (some (.object "ThrowReports$Questions"))
abbrev wX9_there : List Cond := ws_ yX9_there cX9_there 2 (some (.object "ThrowReports$Questions"))
abbrev wX5_init : List Cond := ws_ yX5_init cX5_init 1 none
abbrev wX7_init : List Cond := ws_ yX7_init cX7_init 2 none
abbrev wX1_init : List Cond := ws_ yX1_init cX1_init 1 none
abbrev wX1_copy : List Cond := ws_ yX1_copy cX1_copy 2 (some (.object "ThrowReports$State"))
abbrev wX1_with : List Cond := ws_ yX1_with cX1_with 4 (some (.object "ThrowReports$State"))
abbrev wX11_tells : List Cond := ws_ yX11_tells cX11_tells 1 (some .int)
abbrev wX12_tells : List Cond := ws_ yX12_tells cX12_tells 1 (some .int)
abbrev wX10_init : List Cond := ws_ yX10_init cX10_init 1 none
abbrev wX10_add : List Cond := ws_ yX10_add cX10_add 3 none
abbrev wX10_addAll : List Cond := ws_ yX10_addAll cX10_addAll 3 none
abbrev wX10_bits : List Cond := ws_ yX10_bits cX10_bits 3 (some .int)
abbrev wX3_init : List Cond := ws_ yX3_init cX3_init 1 none
abbrev wX3_act : List Cond := ws_ yX3_act cX3_act 6 (some .int)
abbrev wX3_ahead : List Cond := ws_ yX3_ahead cX3_ahead 3 (some .int)
abbrev wX3_alike : List Cond := ws_ yX3_alike cX3_alike 5 (some .int)
abbrev wX3_as : List Cond := ws_ yX3_as cX3_as 3 (some .int)
abbrev wX3_both : List Cond := ws_ yX3_both cX3_both 3 (some .int)
abbrev wX3_choice : List Cond := ws_ yX3_choice cX3_choice 6 (some .int)
abbrev wX3_clear : List Cond := ws_ yX3_clear cX3_clear 3 (some .int)
abbrev wX3_cloned : List Cond := ws_ yX3_cloned cX3_cloned 7 (some .int)
abbrev wX3_copy : List Cond := ws_ yX3_copy cX3_copy 10 (some .int)
abbrev wX3_count : List Cond := ws_ yX3_count cX3_count 2 (some .int)
abbrev wX3_deep : List Cond := ws_ yX3_deep cX3_deep 6 (some .int)
abbrev wX3_divide : List Cond := ws_ yX3_divide cX3_divide 7 (some .int)
abbrev wX3_done : List Cond := ws_ yX3_done cX3_done 6 (some .int)
abbrev wX3_enter : List Cond := ws_ yX3_enter cX3_enter 3 none
abbrev wX3_figure : List Cond := ws_ yX3_figure cX3_figure 4 (some .int)
abbrev wX3_fits : List Cond := ws_ yX3_fits cX3_fits 5 (some .boolean)
abbrev wX3_forget : List Cond := ws_ yX3_forget cX3_forget 2 (some .int)
abbrev wX3_fresh : List Cond := ws_ yX3_fresh cX3_fresh 4 (some .int)
abbrev wX3_get : List Cond := ws_ yX3_get cX3_get 6 (some .int)
abbrev wX3_given : List Cond := ws_ yX3_given cX3_given 4 (some .int)
abbrev wX3_goes : List Cond := ws_ yX3_goes cX3_goes 4 (some .int)
abbrev wX3_guard : List Cond := ws_ yX3_guard cX3_guard 7 (some .int)
abbrev wX3_guarded : List Cond := ws_ yX3_guarded cX3_guarded 3 (some .int)
abbrev wX3_has : List Cond := ws_ yX3_has cX3_has 2 (some .boolean)
abbrev wX3_in : List Cond := ws_ yX3_in cX3_in 3 (some .boolean)
abbrev wX3_is : List Cond := ws_ yX3_is cX3_is 3 (some .boolean)
abbrev wX3_isAct : List Cond := ws_ yX3_isAct cX3_isAct 5 (some .boolean)
abbrev wX3_isNode : List Cond := ws_ yX3_isNode cX3_isNode 2 (some .boolean)
abbrev wX3_isRegister : List Cond := ws_ yX3_isRegister cX3_isRegister 1 (some .boolean)
abbrev wX3_isSlot : List Cond := ws_ yX3_isSlot cX3_isSlot 1 (some .boolean)
abbrev wX3_item : List Cond := ws_ yX3_item cX3_item 4 (some .long)
abbrev wX3_itemOf : List Cond := ws_ yX3_itemOf cX3_itemOf 5 (some .int)
abbrev wX3_join : List Cond := ws_ yX3_join cX3_join 5 none
abbrev wX3_last : List Cond := ws_ yX3_last cX3_last 7 none
abbrev wX3_lay : List Cond := ws_ yX3_lay cX3_lay 6 (some .int)
abbrev wX3_lay_2 : List Cond := ws_ yX3_lay_2 cX3_lay_2 5 none
abbrev wX3_leave : List Cond := ws_ yX3_leave cX3_leave 4 none
abbrev wX3_make : List Cond := ws_ yX3_make cX3_make 4 (some .int)
abbrev wX3_mask : List Cond := ws_ yX3_mask cX3_mask 1 (some .int)
abbrev wX3_may : List Cond := ws_ yX3_may cX3_may 2 (some .int)
abbrev wX3_mayAct : List Cond := ws_ yX3_mayAct cX3_mayAct 7 (some .boolean)
abbrev wX3_mayAs : List Cond := ws_ yX3_mayAs cX3_mayAs 5 (some .boolean)
abbrev wX3_mayCopy : List Cond := ws_ yX3_mayCopy cX3_mayCopy 9 (some .boolean)
abbrev wX3_mayFail : List Cond := ws_ yX3_mayFail cX3_mayFail 6 none
abbrev wX3_mayItem : List Cond := ws_ yX3_mayItem cX3_mayItem 5 (some .boolean)
abbrev wX3_mayLay : List Cond := ws_ yX3_mayLay cX3_mayLay 7 (some .boolean)
abbrev wX3_mayNew : List Cond := ws_ yX3_mayNew cX3_mayNew 5 (some .boolean)
abbrev wX3_mayRow : List Cond := ws_ yX3_mayRow cX3_mayRow 3 (some .boolean)
abbrev wX3_mayTake : List Cond := ws_ yX3_mayTake cX3_mayTake 7 (some .boolean)
abbrev wX3_measure : List Cond := ws_ yX3_measure cX3_measure 5 (some .int)
abbrev wX3_meet : List Cond := ws_ yX3_meet cX3_meet 2 (some .boolean)
abbrev wX3_move : List Cond := ws_ yX3_move cX3_move 5 (some .int)
abbrev wX3_node : List Cond := ws_ yX3_node cX3_node 8 (some .int)
abbrev wX3_ofAct : List Cond := ws_ yX3_ofAct cX3_ofAct 3 (some .int)
abbrev wX3_ofGuard : List Cond := ws_ yX3_ofGuard cX3_ofGuard 6 (some .int)
abbrev wX3_ofOther : List Cond := ws_ yX3_ofOther cX3_ofOther 6 (some .int)
abbrev wX3_part : List Cond := ws_ yX3_part cX3_part 5 none
abbrev wX3_partly : List Cond := ws_ yX3_partly cX3_partly 2 (some .boolean)
abbrev wX3_plainTwins : List Cond := ws_ yX3_plainTwins cX3_plainTwins 5 (some .boolean)
abbrev wX3_push : List Cond := ws_ yX3_push cX3_push 2 none
abbrev wX3_put : List Cond := ws_ yX3_put cX3_put 4 none
abbrev wX3_ran : List Cond := ws_ yX3_ran cX3_ran 2 (some .int)
abbrev wX3_reached : List Cond := ws_ yX3_reached cX3_reached 2 (some .int)
abbrev wX3_register : List Cond := ws_ yX3_register cX3_register 2 (some .long)
abbrev wX3_report : List Cond := ws_ yX3_report cX3_report 3 (some .int)
abbrev wX3_row : List Cond := ws_ yX3_row cX3_row 3 (some .int)
abbrev wX3_run : List Cond := ws_ yX3_run cX3_run 2 (some .int)
abbrev wX3_set : List Cond := ws_ yX3_set cX3_set 6 (some .int)
abbrev wX3_slot : List Cond := ws_ yX3_slot cX3_slot 4 (some .int)
abbrev wX3_startOf : List Cond := ws_ yX3_startOf cX3_startOf 2 (some .int)
abbrev wX3_step : List Cond := ws_ yX3_step cX3_step 3 none
abbrev wX3_take : List Cond := ws_ yX3_take cX3_take 6 (some .int)
abbrev wX3_tell : List Cond := ws_ yX3_tell cX3_tell 5 (some .int)
abbrev wX3_through : List Cond := ws_ yX3_through cX3_through 3 none
abbrev wX3_throughAct : List Cond := ws_ yX3_throughAct cX3_throughAct 3 none
abbrev wX3_throughBoth : List Cond := ws_ yX3_throughBoth cX3_throughBoth 5 none
abbrev wX3_throughChoice : List Cond := ws_ yX3_throughChoice cX3_throughChoice 6 none
abbrev wX3_throughGuard : List Cond := ws_ yX3_throughGuard cX3_throughGuard 7 none
abbrev wX3_told : List Cond := ws_ yX3_told cX3_told 4 (some .long)
abbrev wX3_twins : List Cond := ws_ yX3_twins cX3_twins 7 (some .boolean)
abbrev wX3_wipe : List Cond := ws_ yX3_wipe cX3_wipe 4 none
abbrev wJ11_init : List Cond := ws_ yJ11_init cJ11_init 2 none
abbrev wJ8_init : List Cond := ws_ yJ8_init cJ8_init 2 none
abbrev wJ10_init : List Cond := ws_ yJ10_init cJ10_init 2 none
abbrev wJ5_init : List Cond := ws_ yJ5_init cJ5_init 2 none
abbrev wJ13_doubleToLongBits : List Cond := ws_ yJ13_doubleToLongBits cJ13_doubleToLongBits 2 (some .long)
abbrev wJ13_isNaN : List Cond := ws_ yJ13_isNaN cJ13_isNaN 2 (some .boolean)
abbrev wJ0_ordinal : List Cond := ws_ yJ0_ordinal cJ0_ordinal 1 (some .int)
abbrev wJ2_init : List Cond := ws_ yJ2_init cJ2_init 1 none
abbrev wJ2_init_2 : List Cond := ws_ yJ2_init_2 cJ2_init_2 2 none
abbrev wJ2_init_3 : List Cond := ws_ yJ2_init_3 cJ2_init_3 5 none
abbrev wJ7_init : List Cond := ws_ yJ7_init cJ7_init 2 none
abbrev wJ12_max : List Cond := ws_ yJ12_max cJ12_max 2 (some .int)
abbrev wJ9_init : List Cond := ws_ yJ9_init cJ9_init 2 none
abbrev wJ4_init : List Cond := ws_ yJ4_init cJ4_init 1 none
abbrev wJ14_init : List Cond := ws_ yJ14_init cJ14_init 1 none
abbrev wJ3_init : List Cond := ws_ yJ3_init cJ3_init 1 none
abbrev wJ3_init_2 : List Cond := ws_ yJ3_init_2 cJ3_init_2 2 none
abbrev wJ3_init_3 : List Cond := ws_ yJ3_init_3 cJ3_init_3 5 none
abbrev wJ1_init : List Cond := ws_ yJ1_init cJ1_init 1 none
abbrev wJ1_init_2 : List Cond := ws_ yJ1_init_2 cJ1_init_2 2 none
abbrev wJ1_init_3 : List Cond := ws_ yJ1_init_3 cJ1_init_3 5 none
theorem cs_J10_7 : YI RJ10 7 yJ3_init_2 cJ3_init_2 2 1 := ⟨lw_meth q408, q103, q467, q407, rfl, by decide, by decide, by decide +kernel⟩
theorem cs_J11_7 : YI RJ11 7 yJ3_init_2 cJ3_init_2 2 1 := ⟨lw_meth q408, q103, q481, q407, rfl, by decide, by decide, by decide +kernel⟩
theorem cs_J13_122 : YS RJ13 122 yJ13_isNaN cJ13_isNaN 2 (some .boolean) 1 := ⟨lw_S q592 q593 q117 q594, by decide, by decide, by decide +kernel⟩
theorem cs_J1_1 : YI RJ1 1 yJ14_init cJ14_init 1 0 := ⟨lw_meth q129, q1383, q329, q128, rfl, by decide, by decide, by decide +kernel⟩
theorem fp_J1_7_X5 : FP RJ1 7 16 0 (tyX5 0) false := ⟨RX5, TX5, 6, "java/lang/Throwable", tyX5, rfl, by decide, in_X5, Or.inl q367, rfl, tyX5_ok, nmX5, rfl, (fun h => nomatch h), tyX5_ok 0 (by decide)⟩
theorem fp_J1_7_X8 : FP RJ1 7 15 0 (tyX8 0) false := ⟨RX8, TX8, 6, "java/lang/Throwable", tyX8, rfl, by decide, in_X8, Or.inl q367, rfl, tyX8_ok, nmX8, rfl, (fun h => nomatch h), tyX8_ok 0 (by decide)⟩
theorem fp_J1_17_X5 : FP RJ1 17 16 1 (tyX5 1) false := ⟨RX5, TX5, 6, "java/lang/Throwable", tyX5, rfl, by decide, in_X5, Or.inl q368, rfl, tyX5_ok, nmX5, rfl, (fun h => nomatch h), tyX5_ok 1 (by decide)⟩
theorem fp_J1_17_X8 : FP RJ1 17 15 1 (tyX8 1) false := ⟨RX8, TX8, 6, "java/lang/Throwable", tyX8, rfl, by decide, in_X8, Or.inl q368, rfl, tyX8_ok, nmX8, rfl, (fun h => nomatch h), tyX8_ok 1 (by decide)⟩
theorem fp_J1_24_X5 : FP RJ1 24 16 2 (tyX5 2) false := ⟨RX5, TX5, 6, "java/lang/Throwable", tyX5, rfl, by decide, in_X5, Or.inl q369, rfl, tyX5_ok, nmX5, rfl, (fun h => nomatch h), tyX5_ok 2 (by decide)⟩
theorem fp_J1_24_X8 : FP RJ1 24 15 2 (tyX8 2) false := ⟨RX8, TX8, 6, "java/lang/Throwable", tyX8, rfl, by decide, in_X8, Or.inl q369, rfl, tyX8_ok, nmX8, rfl, (fun h => nomatch h), tyX8_ok 2 (by decide)⟩
theorem fp_J1_31_X5 : FP RJ1 31 16 3 (tyX5 3) false := ⟨RX5, TX5, 6, "java/lang/Throwable", tyX5, rfl, by decide, in_X5, Or.inl q366, rfl, tyX5_ok, nmX5, rfl, (fun h => nomatch h), tyX5_ok 3 (by decide)⟩
theorem fp_J1_31_X8 : FP RJ1 31 15 3 (tyX8 3) false := ⟨RX8, TX8, 6, "java/lang/Throwable", tyX8, rfl, by decide, in_X8, Or.inl q366, rfl, tyX8_ok, nmX8, rfl, (fun h => nomatch h), tyX8_ok 3 (by decide)⟩
theorem cs_J2_1 : YI RJ2 1 yJ1_init cJ1_init 1 0 := ⟨lw_meth q328, q101, q326, q327, rfl, by decide, by decide, by decide +kernel⟩
theorem cs_J2_7 : YI RJ2 7 yJ1_init_2 cJ1_init_2 2 1 := ⟨lw_meth q414, q101, q412, q413, rfl, by decide, by decide, by decide +kernel⟩
theorem cs_J2_16 : YI RJ2 16 yJ1_init_3 cJ1_init_3 5 4 := ⟨lw_meth q543, q101, q541, q542, rfl, by decide, by decide, by decide +kernel⟩
theorem cs_J3_1 : YI RJ3 1 yJ2_init cJ2_init 1 0 := ⟨lw_meth q325, q102, q323, q324, rfl, by decide, by decide, by decide +kernel⟩
theorem cs_J3_7 : YI RJ3 7 yJ2_init_2 cJ2_init_2 2 1 := ⟨lw_meth q411, q102, q409, q410, rfl, by decide, by decide, by decide +kernel⟩
theorem cs_J3_16 : YI RJ3 16 yJ2_init_3 cJ2_init_3 5 4 := ⟨lw_meth q540, q102, q538, q539, rfl, by decide, by decide, by decide +kernel⟩
theorem cs_J4_1 : YI RJ4 1 yJ3_init cJ3_init 1 0 := ⟨lw_meth q322, q103, q320, q321, rfl, by decide, by decide, by decide +kernel⟩
theorem cs_J5_7 : YI RJ5 7 yJ3_init_2 cJ3_init_2 2 1 := ⟨lw_meth q408, q103, q406, q407, rfl, by decide, by decide, by decide +kernel⟩
theorem cs_J7_7 : YI RJ7 7 yJ3_init_2 cJ3_init_2 2 1 := ⟨lw_meth q408, q103, q437, q407, rfl, by decide, by decide, by decide +kernel⟩
theorem cs_J8_7 : YI RJ8 7 yJ7_init cJ7_init 2 1 := ⟨lw_meth q436, q107, q434, q435, rfl, by decide, by decide, by decide +kernel⟩
theorem cs_J9_7 : YI RJ9 7 yJ3_init_2 cJ3_init_2 2 1 := ⟨lw_meth q408, q103, q453, q407, rfl, by decide, by decide, by decide +kernel⟩
theorem cs_X0_87 : YS RX0 87 yX0_isAct cX0_isAct 5 (some .boolean) 5 := ⟨lw_S q205 q206 q94 q207, by decide, by decide, by decide +kernel⟩
theorem fg_X0_77_X0 : FG RX0 77 0 6 := ⟨RX0, TX0, 14, "ThrowReports", rfl, by decide, in_X0, Or.inl q164, rfl⟩
theorem cs_X0_97 : YN RX0 97 yX4_init cX4_init 8 none 7 := ⟨lw_meth q222, q98, ⟨"ThrowReports", xw_t q220 rfl⟩, by decide, by decide, by decide +kernel⟩
theorem cs_X0_100 : YV RX0 100 RX0 yX0_more cX0_more 2 (some .int) 1 := ⟨lw_V q282 q284 qs0 q94 q285, rfl, by decide, by decide, by decide +kernel⟩
theorem cs_X0_217 : YV RX0 217 RX0 yX0_makes cX0_makes 5 none 3 := ⟨lw_V q511 q513 qs7 q94 q514, rfl, by decide, by decide, by decide +kernel⟩
theorem cs_X0_221 : YV RX0 221 RX0 yX0_deep cX0_deep 10 none 3 := ⟨lw_V q554 q556 qs10 q94 q557, rfl, by decide, by decide, by decide +kernel⟩
theorem cs_X0_224 : YS RX0 224 yJ12_max cJ12_max 2 (some .int) 2 := ⟨lw_S q515 q516 q112 q517, by decide, by decide, by decide +kernel⟩
theorem cs_X0_230 : YV RX0 230 RX0 yX0_need cX0_need 5 none 2 := ⟨lw_V q518 q520 qs8 q94 q521, rfl, by decide, by decide, by decide +kernel⟩
theorem cs_X0_235 : YV RX0 235 RX0 yX0_becomes cX0_becomes 4 none 3 := ⟨lw_V q550 q552 qs9 q94 q553, rfl, by decide, by decide, by decide +kernel⟩
theorem cs_X0_241 : YN RX0 241 yX6_init cX6_init 2 none 1 := ⟨lw_meth q564, q114, ⟨"ThrowReports", xw_t q562 rfl⟩, by decide, by decide, by decide +kernel⟩
theorem cs_X0_246 : YN RX0 246 yX7_init cX7_init 2 none 1 := ⟨lw_meth q574, q115, ⟨"ThrowReports", xw_t q572 rfl⟩, by decide, by decide, by decide +kernel⟩
theorem fg_X0_15_X0 : FG RX0 15 0 3 := ⟨RX0, TX0, 14, "ThrowReports", rfl, by decide, in_X0, Or.inl q161, rfl⟩
theorem fg_X0_47_X2 : FG RX0 47 2 0 := ⟨RX2, TX2, 1, "ThrowReports$Holder", rfl, by decide, in_X2, Or.inr ⟨"ThrowReports", xw_t q154 rfl⟩, rfl⟩
theorem cs_X0_247 : YS RX0 247 yX0_as cX0_as 2 (some (.object "java/lang/Object")) 2 := ⟨lw_S q578 q579 q94 q580, by decide, by decide, by decide +kernel⟩
theorem fp_X0_47_X2 : FP RX0 47 2 0 (tyX2 0) false := ⟨RX2, TX2, 1, "ThrowReports$Holder", tyX2, rfl, by decide, in_X2, Or.inr ⟨rfl, "ThrowReports", xw_t q154 rfl⟩, rfl, tyX2_ok, nmX2, rfl, (fun h => nomatch h), tyX2_ok 0 (by decide)⟩
theorem fg_X0_18_X0 : FG RX0 18 0 4 := ⟨RX0, TX0, 14, "ThrowReports", rfl, by decide, in_X0, Or.inl q162, rfl⟩
theorem cs_X0_251 : YS RX0 251 yX0_got cX0_got 3 (some .long) 3 := ⟨lw_S q586 q587 q94 q588, by decide, by decide, by decide +kernel⟩
theorem cs_X0_255 : YS RX0 255 yX0_sets cX0_sets 5 none 4 := ⟨lw_S q599 q600 q94 q601, by decide, by decide, by decide +kernel⟩
theorem cs_X0_258 : YV RX0 258 RX0 yX0_takesItem cX0_takesItem 5 none 4 := ⟨lw_V q611 q613 qs11 q94 q614, rfl, by decide, by decide, by decide +kernel⟩
theorem cs_X0_262 : YS RX0 262 yX0_lays cX0_lays 10 none 4 := ⟨lw_S q615 q616 q94 q617, by decide, by decide, by decide +kernel⟩
theorem cs_X0_266 : YS RX0 266 yX0_lengthOf cX0_lengthOf 2 (some .int) 2 := ⟨lw_S q618 q619 q94 q620, by decide, by decide, by decide +kernel⟩
theorem cs_X0_279 : YVW RX0 279 RX0 yX0_copies cX0_copies 8 none hX0_copies 5 := ⟨lw_VW q656 q658 qs12 q94 q659, rfl, by decide, by decide, by decide +kernel⟩
theorem cs_X0_283 : YN RX0 283 yX8_init cX8_init 1 none 0 := ⟨lw_meth q705, q119, ⟨"ThrowReports", xw_t q703 rfl⟩, by decide, by decide, by decide +kernel⟩
theorem cs_X0_104 : YV RX0 104 RX0 yX0_isNode cX0_isNode 2 (some .boolean) 1 := ⟨lw_V q290 q292 qs1 q94 q293, rfl, by decide, by decide, by decide +kernel⟩
theorem cs_X0_80 : YS RX0 80 yX0_isSlot cX0_isSlot 1 (some .boolean) 1 := ⟨lw_S q208 q209 q94 q210, by decide, by decide, by decide +kernel⟩
theorem fg_X0_24_X0 : FG RX0 24 0 5 := ⟨RX0, TX0, 14, "ThrowReports", rfl, by decide, in_X0, Or.inl q163, rfl⟩
theorem fg_X0_354_X4 : FG RX0 354 4 12 := ⟨RX4, TX4, 15, "ThrowReports$Node", rfl, by decide, in_X4, Or.inr ⟨"ThrowReports", xw_t q246 rfl⟩, rfl⟩
theorem cs_X0_334 : YV RX0 334 RX0 yX0_isAlike cX0_isAlike 6 (some .boolean) 2 := ⟨lw_V q764 q766 qs22 q94 q767, rfl, by decide, by decide, by decide +kernel⟩
theorem fg_X0_11_X0 : FG RX0 11 0 0 := ⟨RX0, TX0, 14, "ThrowReports", rfl, by decide, in_X0, Or.inl q158, rfl⟩
theorem fg_X0_44_X0 : FG RX0 44 0 1 := ⟨RX0, TX0, 14, "ThrowReports", rfl, by decide, in_X0, Or.inl q159, rfl⟩
theorem fp_X0_44_X0 : FP RX0 44 0 1 (tyX0 1) false := ⟨RX0, TX0, 14, "ThrowReports", tyX0, rfl, by decide, in_X0, Or.inl q159, rfl, tyX0_ok, nmX0, rfl, (fun h => nomatch h), tyX0_ok 1 (by decide)⟩
theorem fg_X0_53_X0 : FG RX0 53 0 2 := ⟨RX0, TX0, 14, "ThrowReports", rfl, by decide, in_X0, Or.inl q160, rfl⟩
theorem fp_X0_53_X0 : FP RX0 53 0 2 (tyX0 2) false := ⟨RX0, TX0, 14, "ThrowReports", tyX0, rfl, by decide, in_X0, Or.inl q160, rfl, tyX0_ok, nmX0, rfl, (fun h => nomatch h), tyX0_ok 2 (by decide)⟩
theorem fg_X0_129_X0 : FG RX0 129 0 7 := ⟨RX0, TX0, 14, "ThrowReports", rfl, by decide, in_X0, Or.inl q165, rfl⟩
theorem fp_X0_129_X0 : FP RX0 129 0 7 (tyX0 7) false := ⟨RX0, TX0, 14, "ThrowReports", tyX0, rfl, by decide, in_X0, Or.inl q165, rfl, tyX0_ok, nmX0, rfl, (fun h => nomatch h), tyX0_ok 7 (by decide)⟩
theorem fg_X0_188_X4 : FG RX0 188 4 2 := ⟨RX4, TX4, 15, "ThrowReports$Node", rfl, by decide, in_X4, Or.inr ⟨"ThrowReports", xw_t q229 rfl⟩, rfl⟩
theorem fg_X0_172_X4 : FG RX0 172 4 3 := ⟨RX4, TX4, 15, "ThrowReports$Node", rfl, by decide, in_X4, Or.inr ⟨"ThrowReports", xw_t q231 rfl⟩, rfl⟩
theorem fg_X0_178_X4 : FG RX0 178 4 4 := ⟨RX4, TX4, 15, "ThrowReports$Node", rfl, by decide, in_X4, Or.inr ⟨"ThrowReports", xw_t q233 rfl⟩, rfl⟩
theorem fg_X0_191_X4 : FG RX0 191 4 5 := ⟨RX4, TX4, 15, "ThrowReports$Node", rfl, by decide, in_X4, Or.inr ⟨"ThrowReports", xw_t q235 rfl⟩, rfl⟩
theorem fg_X0_194_X4 : FG RX0 194 4 6 := ⟨RX4, TX4, 15, "ThrowReports$Node", rfl, by decide, in_X4, Or.inr ⟨"ThrowReports", xw_t q237 rfl⟩, rfl⟩
theorem cs_X0_197 : YV RX0 197 RX0 yX0_acts cX0_acts 8 none 5 := ⟨lw_V q507 q509 qs6 q94 q510, rfl, by decide, by decide, by decide +kernel⟩
theorem fg_X0_132_X0 : FG RX0 132 0 8 := ⟨RX0, TX0, 14, "ThrowReports", rfl, by decide, in_X0, Or.inl q166, rfl⟩
theorem fp_X0_132_X0 : FP RX0 132 0 8 (tyX0 8) false := ⟨RX0, TX0, 14, "ThrowReports", tyX0, rfl, by decide, in_X0, Or.inl q166, rfl, tyX0_ok, nmX0, rfl, (fun h => nomatch h), tyX0_ok 8 (by decide)⟩
theorem fg_X0_28_X0 : FG RX0 28 0 12 := ⟨RX0, TX0, 14, "ThrowReports", rfl, by decide, in_X0, Or.inl q170, rfl⟩
theorem fg_X0_201_X4 : FG RX0 201 4 1 := ⟨RX4, TX4, 15, "ThrowReports$Node", rfl, by decide, in_X4, Or.inr ⟨"ThrowReports", xw_t q227 rfl⟩, rfl⟩
theorem fp_X0_28_X0 : FP RX0 28 0 12 (tyX0 12) false := ⟨RX0, TX0, 14, "ThrowReports", tyX0, rfl, by decide, in_X0, Or.inl q170, rfl, tyX0_ok, nmX0, rfl, (fun h => nomatch h), tyX0_ok 12 (by decide)⟩
theorem cs_X0_383 : YN RX0 383 yX10_init cX10_init 1 none 0 := ⟨lw_meth q800, q121, ⟨"ThrowReports", xw_t q901 rfl⟩, by decide, by decide, by decide +kernel⟩
theorem fg_X0_372_X10 : FG RX0 372 8 0 := ⟨RX10, TX10, 1, "ThrowReports$Ways", rfl, by decide, in_X10, Or.inr ⟨"ThrowReports", xw_t q805 rfl⟩, rfl⟩
theorem fg_X0_126_X4 : FG RX0 126 4 10 := ⟨RX4, TX4, 15, "ThrowReports$Node", rfl, by decide, in_X4, Or.inr ⟨"ThrowReports", xw_t q242 rfl⟩, rfl⟩
theorem cs_X0_345 : YV RX0 345 RX0 yX0_through cX0_through 4 (some (.object "ThrowReports$Ways")) 2 := ⟨lw_V q783 q785 qs24 q94 q786, rfl, by decide, by decide, by decide +kernel⟩
theorem fg_X0_403_X4 : FG RX0 403 4 14 := ⟨RX4, TX4, 15, "ThrowReports$Node", rfl, by decide, in_X4, Or.inr ⟨"ThrowReports", xw_t q250 rfl⟩, rfl⟩
theorem cs_X0_349 : YN RX0 349 yX10_bits cX10_bits 3 (some .int) 0 := ⟨lw_meth q909, q121, ⟨"ThrowReports", xw_t q906 rfl⟩, by decide, by decide, by decide +kernel⟩
theorem fp_X0_403_X4 : FP RX0 403 4 14 (tyX4 14) false := ⟨RX4, TX4, 15, "ThrowReports$Node", tyX4, rfl, by decide, in_X4, Or.inr ⟨rfl, "ThrowReports", xw_t q250 rfl⟩, rfl, tyX4_ok, nmX4, rfl, (fun h => nomatch h), tyX4_ok 14 (by decide)⟩
theorem cs_X0_395 : YN RX0 395 yX10_add cX10_add 3 none 2 := ⟨lw_meth q824, q121, ⟨"ThrowReports", xw_t q911 rfl⟩, by decide, by decide, by decide +kernel⟩
theorem cs_X0_376 : YN RX0 376 yX10_addAll cX10_addAll 3 none 1 := ⟨lw_meth q893, q121, ⟨"ThrowReports", xw_t q890 rfl⟩, by decide, by decide, by decide +kernel⟩
theorem fg_X0_107_X4 : FG RX0 107 4 7 := ⟨RX4, TX4, 15, "ThrowReports$Node", rfl, by decide, in_X4, Or.inr ⟨"ThrowReports", xw_t q239 rfl⟩, rfl⟩
theorem fp_X0_113_X4 : FP RX0 113 4 8 (tyX4 8) false := ⟨RX4, TX4, 15, "ThrowReports$Node", tyX4, rfl, by decide, in_X4, Or.inr ⟨rfl, "ThrowReports", xw_t q240 rfl⟩, rfl, tyX4_ok, nmX4, rfl, (fun h => nomatch h), tyX4_ok 8 (by decide)⟩
theorem fp_X0_117_X4 : FP RX0 117 4 9 (tyX4 9) false := ⟨RX4, TX4, 15, "ThrowReports$Node", tyX4, rfl, by decide, in_X4, Or.inr ⟨rfl, "ThrowReports", xw_t q241 rfl⟩, rfl, tyX4_ok, nmX4, rfl, (fun h => nomatch h), tyX4_ok 9 (by decide)⟩
theorem fp_X0_107_X4 : FP RX0 107 4 7 (tyX4 7) false := ⟨RX4, TX4, 15, "ThrowReports$Node", tyX4, rfl, by decide, in_X4, Or.inr ⟨rfl, "ThrowReports", xw_t q239 rfl⟩, rfl, tyX4_ok, nmX4, rfl, (fun h => nomatch h), tyX4_ok 7 (by decide)⟩
theorem cs_X0_312 : YN RX0 312 yX2_isRow cX2_isRow 1 (some .boolean) 0 := ⟨lw_meth q669, q96, ⟨"ThrowReports", xw_t q666 rfl⟩, by decide, by decide, by decide +kernel⟩
theorem cs_X0_175 : YN RX0 175 yX2_kind cX2_kind 2 (some .int) 0 := ⟨lw_meth q673, q96, ⟨"ThrowReports", xw_t q683 rfl⟩, by decide, by decide, by decide +kernel⟩
theorem cs_X0_316 : YS RX0 316 yX0_meet cX0_meet 2 (some .boolean) 2 := ⟨lw_S q684 q685 q94 q686, by decide, by decide, by decide +kernel⟩
theorem cs_X0_319 : YN RX0 319 yX2_size cX2_size 1 (some .int) 0 := ⟨lw_meth q690, q96, ⟨"ThrowReports", xw_t q687 rfl⟩, by decide, by decide, by decide +kernel⟩
theorem cs_X0_322 : YS RX0 322 yX0_has cX0_has 4 (some .boolean) 3 := ⟨lw_S q692 q693 q94 q694, by decide, by decide, by decide +kernel⟩
theorem cs_X0_73 : YS RX0 73 yX0_in cX0_in 3 (some .boolean) 3 := ⟨lw_S q211 q212 q94 q213, by decide, by decide, by decide +kernel⟩
theorem fg_X0_135_X0 : FG RX0 135 0 9 := ⟨RX0, TX0, 14, "ThrowReports", rfl, by decide, in_X0, Or.inl q167, rfl⟩
theorem cs_X0_308 : YS RX0 308 yX0_cameOf cX0_cameOf 7 (some .int) 5 := ⟨lw_S q663 q664 q94 q665, by decide, by decide, by decide +kernel⟩
theorem fp_X0_135_X0 : FP RX0 135 0 9 (tyX0 9) false := ⟨RX0, TX0, 14, "ThrowReports", tyX0, rfl, by decide, in_X0, Or.inl q167, rfl, tyX0_ok, nmX0, rfl, (fun h => nomatch h), tyX0_ok 9 (by decide)⟩
theorem fg_X0_162_X4 : FG RX0 162 4 0 := ⟨RX4, TX4, 15, "ThrowReports$Node", rfl, by decide, in_X4, Or.inr ⟨"ThrowReports", xw_t q225 rfl⟩, rfl⟩
theorem cs_X0_169 : YVW RX0 169 RX0 yX0_begins cX0_begins 4 none hX0_begins 1 := ⟨lw_VW q503 q505 qs5 q94 q506, rfl, by decide, by decide, by decide +kernel⟩
theorem fg_X0_113_X4 : FG RX0 113 4 8 := ⟨RX4, TX4, 15, "ThrowReports$Node", rfl, by decide, in_X4, Or.inr ⟨"ThrowReports", xw_t q240 rfl⟩, rfl⟩
theorem cs_X0_144 : YV RX0 144 RX0 yX0_does cX0_does 3 none 1 := ⟨lw_V q493 q495 qs4 q94 q496, rfl, by decide, by decide, by decide +kernel⟩
theorem fg_X0_117_X4 : FG RX0 117 4 9 := ⟨RX4, TX4, 15, "ThrowReports$Node", rfl, by decide, in_X4, Or.inr ⟨"ThrowReports", xw_t q241 rfl⟩, rfl⟩
theorem cs_X0_181 : YS RX0 181 yX0_is cX0_is 2 (some .boolean) 2 := ⟨lw_S q709 q710 q94 q711, by decide, by decide, by decide +kernel⟩
theorem cs_X0_185 : YVW RX0 185 RX0 yX0_guards cX0_guards 4 none hX0_guards 1 := ⟨lw_VW q712 q714 qs16 q94 q715, rfl, by decide, by decide, by decide +kernel⟩
theorem fg_X0_138_X0 : FG RX0 138 0 10 := ⟨RX0, TX0, 14, "ThrowReports", rfl, by decide, in_X0, Or.inl q168, rfl⟩
theorem fp_X0_138_X0 : FP RX0 138 0 10 (tyX0 10) false := ⟨RX0, TX0, 14, "ThrowReports", tyX0, rfl, by decide, in_X0, Or.inl q168, rfl, tyX0_ok, nmX0, rfl, (fun h => nomatch h), tyX0_ok 10 (by decide)⟩
theorem fg_X0_141_X0 : FG RX0 141 0 11 := ⟨RX0, TX0, 14, "ThrowReports", rfl, by decide, in_X0, Or.inl q169, rfl⟩
theorem fp_X0_141_X0 : FP RX0 141 0 11 (tyX0 11) false := ⟨RX0, TX0, 14, "ThrowReports", tyX0, rfl, by decide, in_X0, Or.inl q169, rfl, tyX0_ok, nmX0, rfl, (fun h => nomatch h), tyX0_ok 11 (by decide)⟩
theorem fp_X0_77_X0 : FP RX0 77 0 6 (tyX0 6) false := ⟨RX0, TX0, 14, "ThrowReports", tyX0, rfl, by decide, in_X0, Or.inl q164, rfl, tyX0_ok, nmX0, rfl, (fun h => nomatch h), tyX0_ok 6 (by decide)⟩
theorem fg_X0_35_X0 : FG RX0 35 0 13 := ⟨RX0, TX0, 14, "ThrowReports", rfl, by decide, in_X0, Or.inl q171, rfl⟩
theorem fg_X0_40_X1 : FG RX0 40 1 0 := ⟨RX1, TX1, 1, "ThrowReports$State", rfl, by decide, in_X1, Or.inr ⟨"ThrowReports", xw_t q142 rfl⟩, rfl⟩
theorem cs_X0_295 : YS RX0 295 yJ13_doubleToLongBits cJ13_doubleToLongBits 2 (some .long) 1 := ⟨lw_S q589 q590 q117 q591, by decide, by decide, by decide +kernel⟩
theorem fp_X0_126_X4 : FP RX0 126 4 10 (tyX4 10) false := ⟨RX4, TX4, 15, "ThrowReports$Node", tyX4, rfl, by decide, in_X4, Or.inr ⟨rfl, "ThrowReports", xw_t q242 rfl⟩, rfl, tyX4_ok, nmX4, rfl, (fun h => nomatch h), tyX4_ok 10 (by decide)⟩
theorem fg_X0_388_X4 : FG RX0 388 4 13 := ⟨RX4, TX4, 15, "ThrowReports$Node", rfl, by decide, in_X4, Or.inr ⟨"ThrowReports", xw_t q248 rfl⟩, rfl⟩
theorem cs_X0_204 : YVW RX0 204 RX0 yX0_takes cX0_takes 3 none hX0_takes 1 := ⟨lw_VW q716 q718 qs17 q94 q719, rfl, by decide, by decide, by decide +kernel⟩
theorem cs_X0_207 : YVW RX0 207 RX0 yX0_ends cX0_ends 5 none hX0_ends 2 := ⟨lw_VW q728 q730 qs20 q94 q731, rfl, by decide, by decide, by decide +kernel⟩
theorem cs_X0_211 : YN RX0 211 yX4_takes cX4_takes 2 (some .boolean) 1 := ⟨lw_meth q727, q98, ⟨"ThrowReports", xw_t q724 rfl⟩, by decide, by decide, by decide +kernel⟩
theorem cs_X0_1 : YI RX0 1 yJ14_init cJ14_init 1 0 := ⟨lw_meth q129, q1383, q127, q128, rfl, by decide, by decide, by decide +kernel⟩
theorem fp_X0_11_X0 : FP RX0 11 0 0 (tyX0 0) true := ⟨RX0, TX0, 14, "ThrowReports", tyX0, rfl, by decide, in_X0, Or.inl q158, rfl, tyX0_ok, nmX0, rfl, (fun _ => rfl), tyX0_ok 0 (by decide)⟩
theorem fp_X0_15_X0 : FP RX0 15 0 3 (tyX0 3) true := ⟨RX0, TX0, 14, "ThrowReports", tyX0, rfl, by decide, in_X0, Or.inl q161, rfl, tyX0_ok, nmX0, rfl, (fun _ => rfl), tyX0_ok 3 (by decide)⟩
theorem fp_X0_18_X0 : FP RX0 18 0 4 (tyX0 4) true := ⟨RX0, TX0, 14, "ThrowReports", tyX0, rfl, by decide, in_X0, Or.inl q162, rfl, tyX0_ok, nmX0, rfl, (fun _ => rfl), tyX0_ok 4 (by decide)⟩
theorem fp_X0_24_X0 : FP RX0 24 0 5 (tyX0 5) true := ⟨RX0, TX0, 14, "ThrowReports", tyX0, rfl, by decide, in_X0, Or.inl q163, rfl, tyX0_ok, nmX0, rfl, (fun _ => rfl), tyX0_ok 5 (by decide)⟩
theorem cs_X0_34 : YN RX0 34 yX1_init cX1_init 1 none 0 := ⟨lw_meth q138, q95, ⟨"ThrowReports", xw_t q136 rfl⟩, by decide, by decide, by decide +kernel⟩
theorem fp_X0_35_X0 : FP RX0 35 0 13 (tyX0 13) true := ⟨RX0, TX0, 14, "ThrowReports", tyX0, rfl, by decide, in_X0, Or.inl q171, rfl, tyX0_ok, nmX0, rfl, (fun _ => rfl), tyX0_ok 13 (by decide)⟩
theorem cs_X0_39 : YN RX0 39 yX2_init cX2_init 1 none 0 := ⟨lw_meth q151, q96, ⟨"ThrowReports", xw_t q149 rfl⟩, by decide, by decide, by decide +kernel⟩
theorem cs_X0_84 : YS RX0 84 yX0_isRegister cX0_isRegister 1 (some .boolean) 1 := ⟨lw_S q214 q215 q94 q216, by decide, by decide, by decide +kernel⟩
theorem cs_X0_330 : YS RX0 330 yX0_sameInts cX0_sameInts 4 (some .boolean) 2 := ⟨lw_S q768 q769 q94 q770, by decide, by decide, by decide +kernel⟩
theorem cs_X0_326 : YV RX0 326 RX0 yX0_numberOf cX0_numberOf 3 (some .int) 1 := ⟨lw_V q748 q750 qs21 q94 q751, rfl, by decide, by decide, by decide +kernel⟩
theorem fg_X0_369_X4 : FG RX0 369 4 11 := ⟨RX4, TX4, 15, "ThrowReports$Node", rfl, by decide, in_X4, Or.inr ⟨"ThrowReports", xw_t q244 rfl⟩, rfl⟩
theorem cs_X0_60 : YN RX0 60 yX5_init cX5_init 1 none 0 := ⟨lw_meth q534, q113, ⟨"ThrowReports", xw_t q532 rfl⟩, by decide, by decide, by decide +kernel⟩
theorem cs_X0_406 : YN RX0 406 yX9_init cX9_init 2 none 1 := ⟨lw_meth q794, q120, ⟨"ThrowReports", xw_t q792 rfl⟩, by decide, by decide, by decide +kernel⟩
theorem cs_X0_409 : YN RX0 409 yX9_size cX9_size 2 (some (.object "ThrowReports$Questions")) 1 := ⟨lw_meth q820, q120, ⟨"ThrowReports", xw_t q817 rfl⟩, by decide, by decide, by decide +kernel⟩
theorem cs_X0_412 : YN RX0 412 yX9_may cX9_may 2 (some (.object "ThrowReports$Questions")) 1 := ⟨lw_meth q838, q120, ⟨"ThrowReports", xw_t q835 rfl⟩, by decide, by decide, by decide +kernel⟩
theorem cs_X0_415 : YN RX0 415 yX9_anew cX9_anew 3 (some (.object "ThrowReports$Ways")) 2 := ⟨lw_meth q842, q120, ⟨"ThrowReports", xw_t q839 rfl⟩, by decide, by decide, by decide +kernel⟩
theorem cs_X0_419 : YN RX0 419 yX9_as cX9_as 3 (some (.object "ThrowReports$Questions")) 2 := ⟨lw_meth q855, q120, ⟨"ThrowReports", xw_t q852 rfl⟩, by decide, by decide, by decide +kernel⟩
theorem cs_X0_422 : YN RX0 422 yX9_set cX9_set 2 (some .int) 1 := ⟨lw_meth q859, q120, ⟨"ThrowReports", xw_t q867 rfl⟩, by decide, by decide, by decide +kernel⟩
theorem cs_X0_426 : YN RX0 426 yX9_there cX9_there 2 (some (.object "ThrowReports$Questions")) 1 := ⟨lw_meth q871, q120, ⟨"ThrowReports", xw_t q868 rfl⟩, by decide, by decide, by decide +kernel⟩
theorem cs_X0_429 : YN RX0 429 yX9_end cX9_end 1 (some (.object "ThrowReports$Ways")) 0 := ⟨lw_meth q851, q120, ⟨"ThrowReports", xw_t q872 rfl⟩, by decide, by decide, by decide +kernel⟩
theorem cs_X0_433 : YS RX0 433 yX0_stores cX0_stores 7 (some (.object "ThrowReports$Ways")) 3 := ⟨lw_S q873 q874 q94 q875, by decide, by decide, by decide +kernel⟩
theorem cs_X0_437 : YS RX0 437 yX0_ofCopy cX0_ofCopy 7 (some (.object "ThrowReports$Ways")) 3 := ⟨lw_S q877 q878 q94 q879, by decide, by decide, by decide +kernel⟩
theorem fp_X0_440_X9 : FP RX0 440 7 1 (tyX9 1) false := ⟨RX9, TX9, 2, "ThrowReports$Questions", tyX9, rfl, by decide, in_X9, Or.inr ⟨rfl, "ThrowReports", xw_t q811 rfl⟩, rfl, tyX9_ok, nmX9, rfl, (fun h => nomatch h), tyX9_ok 1 (by decide)⟩
theorem cs_X0_380 : YS RX0 380 yX0_thatAre cX0_thatAre 4 (some .int) 2 := ⟨lw_S q899 q861 q94 q862, by decide, by decide, by decide +kernel⟩
theorem cs_X0_384 : YN RX0 384 yX1_with cX1_with 4 (some (.object "ThrowReports$State")) 2 := ⟨lw_meth q846, q95, ⟨"ThrowReports", xw_t q876 rfl⟩, by decide, by decide, by decide +kernel⟩
theorem fg_X0_440_X9 : FG RX0 440 7 1 := ⟨RX9, TX9, 2, "ThrowReports$Questions", rfl, by decide, in_X9, Or.inr ⟨"ThrowReports", xw_t q811 rfl⟩, rfl⟩
theorem cs_X0_443 : YS RX0 443 yX0_mayUnlike cX0_mayUnlike 6 (some .boolean) 2 := ⟨lw_S q880 q881 q94 q882, by decide, by decide, by decide +kernel⟩
theorem cs_X0_446 : YS RX0 446 yX0_meeting cX0_meeting 5 (some .int) 2 := ⟨lw_S q883 q884 q94 q885, by decide, by decide, by decide +kernel⟩
theorem fp_X0_388_X4 : FP RX0 388 4 13 (tyX4 13) false := ⟨RX4, TX4, 15, "ThrowReports$Node", tyX4, rfl, by decide, in_X4, Or.inr ⟨rfl, "ThrowReports", xw_t q248 rfl⟩, rfl, tyX4_ok, nmX4, rfl, (fun h => nomatch h), tyX4_ok 13 (by decide)⟩
theorem cs_X0_391 : YS RX0 391 yX0_together cX0_together 4 (some (.object "ThrowReports$State")) 2 := ⟨lw_S q910 q826 q94 q827, by decide, by decide, by decide +kernel⟩
theorem cs_X0_399 : YV RX0 399 RX0 yX0_behind cX0_behind 6 (some (.object "ThrowReports$Ways")) 2 := ⟨lw_V q912 q914 qs41 q94 q915, rfl, by decide, by decide, by decide +kernel⟩
theorem cs_X0_342 : YN RX0 342 yX4_forget cX4_forget 2 none 0 := ⟨lw_meth q782, q98, ⟨"ThrowReports", xw_t q779 rfl⟩, by decide, by decide, by decide +kernel⟩
theorem cs_X0_299 : YS RX0 299 yX0_loaded cX0_loaded 2 (some .double) 1 := ⟨lw_S q602 q603 q94 q604, by decide, by decide, by decide +kernel⟩
theorem cs_X0_213 : YV RX0 213 RX0 yX0_handles cX0_handles 4 none 3 := ⟨lw_V q720 q722 qs18 q94 q723, rfl, by decide, by decide, by decide +kernel⟩
theorem cs_X0_357 : YS RX0 357 yX0_ofAct cX0_ofAct 3 (some (.object "ThrowReports$Ways")) 2 := ⟨lw_S q787 q788 q94 q789, by decide, by decide, by decide +kernel⟩
theorem cs_X0_360 : YV RX0 360 RX0 yX0_ofBoth cX0_ofBoth 5 (some (.object "ThrowReports$Ways")) 2 := ⟨lw_V q886 q888 qs36 q94 q889, rfl, by decide, by decide, by decide +kernel⟩
theorem cs_X0_363 : YV RX0 363 RX0 yX0_ofChoice cX0_ofChoice 6 (some (.object "ThrowReports$Ways")) 2 := ⟨lw_V q895 q897 qs38 q94 q898, rfl, by decide, by decide, by decide +kernel⟩
theorem cs_X0_366 : YV RX0 366 RX0 yX0_ofGuard cX0_ofGuard 6 (some (.object "ThrowReports$Ways")) 2 := ⟨lw_V q902 q904 qs39 q94 q905, rfl, by decide, by decide, by decide +kernel⟩
theorem fp_X0_369_X4 : FP RX0 369 4 11 (tyX4 11) false := ⟨RX4, TX4, 15, "ThrowReports$Node", tyX4, rfl, by decide, in_X4, Or.inr ⟨rfl, "ThrowReports", xw_t q244 rfl⟩, rfl, tyX4_ok, nmX4, rfl, (fun h => nomatch h), tyX4_ok 11 (by decide)⟩
theorem cs_X0_338 : YN RX0 338 yX1_copy cX1_copy 2 (some (.object "ThrowReports$State")) 0 := ⟨lw_meth q831, q95, ⟨"ThrowReports", xw_t q828 rfl⟩, by decide, by decide, by decide +kernel⟩
theorem fg_X10_11_X10 : FG RX10 11 8 0 := ⟨RX10, TX10, 1, "ThrowReports$Ways", rfl, by decide, in_X10, Or.inl q804, rfl⟩
theorem cs_X10_17 : YN RX10 17 yX0_together cX0_together 4 (some (.object "ThrowReports$State")) 2 := ⟨lw_meth q827, q94, ⟨"ThrowReports", xw_t q825 rfl⟩, by decide, by decide, by decide +kernel⟩
theorem cs_X10_21 : YV RX10 21 RX10 yX10_add cX10_add 3 none 2 := ⟨lw_V q894 q823 qs26 q121 q824, rfl, by decide, by decide, by decide +kernel⟩
theorem cs_X10_3 : YI RX10 3 yJ14_init cJ14_init 1 0 := ⟨lw_meth q129, q1383, q801, q128, rfl, by decide, by decide, by decide +kernel⟩
theorem fp_X10_11_X10 : FP RX10 11 8 0 (tyX10 0) true := ⟨RX10, TX10, 1, "ThrowReports$Ways", tyX10, rfl, by decide, in_X10, Or.inl q804, rfl, tyX10_ok, nmX10, rfl, (fun _ => rfl), tyX10_ok 0 (by decide)⟩
theorem cs_X1_15 : YI RX1 15 yX1_init cX1_init 1 0 := ⟨lw_meth q138, q95, q833, q137, rfl, by decide, by decide, by decide +kernel⟩
theorem fg_X1_9_X1 : FG RX1 9 1 0 := ⟨RX1, TX1, 1, "ThrowReports$State", rfl, by decide, in_X1, Or.inl q140, rfl⟩
theorem cs_X1_3 : YI RX1 3 yJ14_init cJ14_init 1 0 := ⟨lw_meth q129, q1383, q139, q128, rfl, by decide, by decide, by decide +kernel⟩
theorem fp_X1_9_X1 : FP RX1 9 1 0 (tyX1 0) true := ⟨RX1, TX1, 1, "ThrowReports$State", tyX1, rfl, by decide, in_X1, Or.inl q140, rfl, tyX1_ok, nmX1, rfl, (fun _ => rfl), tyX1_ok 0 (by decide)⟩
theorem cs_X1_22 : YV RX1 22 RX1 yX1_copy cX1_copy 2 (some (.object "ThrowReports$State")) 0 := ⟨lw_V q847 q830 qs27 q95 q831, rfl, by decide, by decide, by decide +kernel⟩
theorem cs_X2_1 : YI RX2 1 yJ14_init cJ14_init 1 0 := ⟨lw_meth q129, q1383, q152, q128, rfl, by decide, by decide, by decide +kernel⟩
theorem cs_X2_31 : YV RX2 31 RX2 yX2_kind cX2_kind 2 (some .int) 0 := ⟨lw_V q670 q672 qs14 q96 q673, rfl, by decide, by decide, by decide +kernel⟩
theorem fg_X2_7_X2 : FG RX2 7 2 0 := ⟨RX2, TX2, 1, "ThrowReports$Holder", rfl, by decide, in_X2, Or.inl q153, rfl⟩
theorem cs_X2_35 : YV RX2 35 RX6 yX6_number cX6_number 1 (some .int) 0 := ⟨lw_V q691 q642 q1381 q114 q644, rfl, by decide, by decide, by decide +kernel⟩
theorem cs_X3_131 : YS RX3 131 yX3_isAct cX3_isAct 5 (some .boolean) 5 := ⟨lw_S q1064 q1065 q97 q1066, by decide, by decide, by decide +kernel⟩
theorem cs_X3_135 : YV RX3 135 RX3 yX3_node cX3_node 8 (some .int) 7 := ⟨lw_V q1076 q1078 qs42 q97 q1079, rfl, by decide, by decide, by decide +kernel⟩
theorem cs_X3_139 : YV RX3 139 RX3 yX3_isNode cX3_isNode 2 (some .boolean) 1 := ⟨lw_V q1084 q1086 qs43 q97 q1087, rfl, by decide, by decide, by decide +kernel⟩
theorem cs_X3_124 : YS RX3 124 yX3_isSlot cX3_isSlot 1 (some .boolean) 1 := ⟨lw_S q1067 q1068 q97 q1069, by decide, by decide, by decide +kernel⟩
theorem cs_X3_349 : YV RX3 349 RX3 yX3_has cX3_has 2 (some .boolean) 1 := ⟨lw_V q1363 q1365 qs92 q97 q1366, rfl, by decide, by decide, by decide +kernel⟩
theorem fg_X3_82_X3 : FG RX3 82 3 33 := ⟨RX3, TX3, 40, "ThrowReportsModel", rfl, by decide, in_X3, Or.inl q971, rfl⟩
theorem fg_X3_26_X3 : FG RX3 26 3 7 := ⟨RX3, TX3, 40, "ThrowReportsModel", rfl, by decide, in_X3, Or.inl q945, rfl⟩
theorem cs_X3_269 : YV RX3 269 RX3 yX3_twins cX3_twins 7 (some .boolean) 2 := ⟨lw_V q1251 q1253 qs70 q97 q1254, rfl, by decide, by decide, by decide +kernel⟩
theorem cs_X3_146 : YV RX3 146 RX3 yX3_is cX3_is 3 (some .boolean) 2 := ⟨lw_V q1150 q1152 qs55 q97 q1153, rfl, by decide, by decide, by decide +kernel⟩
theorem fg_X3_50_X3 : FG RX3 50 3 16 := ⟨RX3, TX3, 40, "ThrowReportsModel", rfl, by decide, in_X3, Or.inl q954, rfl⟩
theorem cs_X3_103 : YS RX3 103 yX3_in cX3_in 3 (some .boolean) 3 := ⟨lw_S q1070 q1071 q97 q1072, by decide, by decide, by decide +kernel⟩
theorem fg_X3_111_X3 : FG RX3 111 3 0 := ⟨RX3, TX3, 40, "ThrowReportsModel", rfl, by decide, in_X3, Or.inl q938, rfl⟩
theorem fp_X3_111_X3 : FP RX3 111 3 0 (tyX3 0) false := ⟨RX3, TX3, 40, "ThrowReportsModel", tyX3, rfl, by decide, in_X3, Or.inl q938, rfl, tyX3_ok, nmX3, rfl, (fun h => nomatch h), tyX3_ok 0 (by decide)⟩
theorem fp_X3_114_X3 : FP RX3 114 3 1 (tyX3 1) false := ⟨RX3, TX3, 40, "ThrowReportsModel", tyX3, rfl, by decide, in_X3, Or.inl q939, rfl, tyX3_ok, nmX3, rfl, (fun h => nomatch h), tyX3_ok 1 (by decide)⟩
theorem fg_X3_29_X3 : FG RX3 29 3 8 := ⟨RX3, TX3, 40, "ThrowReportsModel", rfl, by decide, in_X3, Or.inl q946, rfl⟩
theorem cs_X3_154 : YV RX3 154 RX3 yX3_row cX3_row 3 (some .int) 2 := ⟨lw_V q1165 q1167 qs58 q97 q1168, rfl, by decide, by decide, by decide +kernel⟩
theorem fg_X3_16_X3 : FG RX3 16 3 4 := ⟨RX3, TX3, 40, "ThrowReportsModel", rfl, by decide, in_X3, Or.inl q942, rfl⟩
theorem cs_X3_157 : YV RX3 157 RX3 yX3_fits cX3_fits 5 (some .boolean) 2 := ⟨lw_V q1124 q1126 qs49 q97 q1127, rfl, by decide, by decide, by decide +kernel⟩
theorem fg_X3_13_X3 : FG RX3 13 3 3 := ⟨RX3, TX3, 40, "ThrowReportsModel", rfl, by decide, in_X3, Or.inl q941, rfl⟩
theorem cs_X3_161 : YV RX3 161 RX3 yX3_fresh cX3_fresh 4 (some .int) 2 := ⟨lw_V q1130 q1132 qs50 q97 q1133, rfl, by decide, by decide, by decide +kernel⟩
theorem fg_X3_22_X3 : FG RX3 22 3 6 := ⟨RX3, TX3, 40, "ThrowReportsModel", rfl, by decide, in_X3, Or.inl q944, rfl⟩
theorem fg_X3_7_X3 : FG RX3 7 3 2 := ⟨RX3, TX3, 40, "ThrowReportsModel", rfl, by decide, in_X3, Or.inl q940, rfl⟩
theorem cs_X3_174 : YS RX3 174 yX3_meet cX3_meet 2 (some .boolean) 2 := ⟨lw_S q1203 q1204 q97 q1205, by decide, by decide, by decide +kernel⟩
theorem fg_X3_57_X3 : FG RX3 57 3 23 := ⟨RX3, TX3, 40, "ThrowReportsModel", rfl, by decide, in_X3, Or.inl q961, rfl⟩
theorem fg_X3_177_X3 : FG RX3 177 3 19 := ⟨RX3, TX3, 40, "ThrowReportsModel", rfl, by decide, in_X3, Or.inl q957, rfl⟩
theorem fp_X3_177_X3 : FP RX3 177 3 19 (tyX3 19) false := ⟨RX3, TX3, 40, "ThrowReportsModel", tyX3, rfl, by decide, in_X3, Or.inl q957, rfl, tyX3_ok, nmX3, rfl, (fun h => nomatch h), tyX3_ok 19 (by decide)⟩
theorem fg_X3_114_X3 : FG RX3 114 3 1 := ⟨RX3, TX3, 40, "ThrowReportsModel", rfl, by decide, in_X3, Or.inl q939, rfl⟩
theorem fg_X3_121_X3 : FG RX3 121 3 9 := ⟨RX3, TX3, 40, "ThrowReportsModel", rfl, by decide, in_X3, Or.inl q947, rfl⟩
theorem fg_X3_38_X3 : FG RX3 38 3 12 := ⟨RX3, TX3, 40, "ThrowReportsModel", rfl, by decide, in_X3, Or.inl q950, rfl⟩
theorem fg_X3_41_X3 : FG RX3 41 3 13 := ⟨RX3, TX3, 40, "ThrowReportsModel", rfl, by decide, in_X3, Or.inl q951, rfl⟩
theorem fg_X3_44_X3 : FG RX3 44 3 14 := ⟨RX3, TX3, 40, "ThrowReportsModel", rfl, by decide, in_X3, Or.inl q952, rfl⟩
theorem fg_X3_47_X3 : FG RX3 47 3 15 := ⟨RX3, TX3, 40, "ThrowReportsModel", rfl, by decide, in_X3, Or.inl q953, rfl⟩
theorem fg_X3_35_X3 : FG RX3 35 3 11 := ⟨RX3, TX3, 40, "ThrowReportsModel", rfl, by decide, in_X3, Or.inl q949, rfl⟩
theorem cs_X3_186 : YV RX3 186 RX3 yX3_make cX3_make 4 (some .int) 3 := ⟨lw_V q1120 q1122 qs48 q97 q1123, rfl, by decide, by decide, by decide +kernel⟩
theorem cs_X3_189 : YV RX3 189 RX3 yX3_deep cX3_deep 6 (some .int) 3 := ⟨lw_V q1134 q1136 qs51 q97 q1137, rfl, by decide, by decide, by decide +kernel⟩
theorem cs_X3_192 : YV RX3 192 RX3 yX3_figure cX3_figure 4 (some .int) 3 := ⟨lw_V q1138 q1140 qs52 q97 q1141, rfl, by decide, by decide, by decide +kernel⟩
theorem cs_X3_195 : YV RX3 195 RX3 yX3_move cX3_move 5 (some .int) 3 := ⟨lw_V q1142 q1144 qs53 q97 q1145, rfl, by decide, by decide, by decide +kernel⟩
theorem cs_X3_198 : YV RX3 198 RX3 yX3_get cX3_get 6 (some .int) 4 := ⟨lw_V q1157 q1159 qs56 q97 q1160, rfl, by decide, by decide, by decide +kernel⟩
theorem cs_X3_202 : YV RX3 202 RX3 yX3_set cX3_set 6 (some .int) 4 := ⟨lw_V q1169 q1171 qs59 q97 q1172, rfl, by decide, by decide, by decide +kernel⟩
theorem cs_X3_205 : YV RX3 205 RX3 yX3_take cX3_take 6 (some .int) 4 := ⟨lw_V q1179 q1181 qs60 q97 q1182, rfl, by decide, by decide, by decide +kernel⟩
theorem cs_X3_208 : YV RX3 208 RX3 yX3_lay cX3_lay 6 (some .int) 4 := ⟨lw_V q1183 q1185 qs61 q97 q1186, rfl, by decide, by decide, by decide +kernel⟩
theorem cs_X3_211 : YV RX3 211 RX3 yX3_measure cX3_measure 5 (some .int) 3 := ⟨lw_V q1187 q1189 qs62 q97 q1190, rfl, by decide, by decide, by decide +kernel⟩
theorem cs_X3_214 : YV RX3 214 RX3 yX3_cloned cX3_cloned 7 (some .int) 2 := ⟨lw_V q1191 q1193 qs63 q97 q1194, rfl, by decide, by decide, by decide +kernel⟩
theorem cs_X3_217 : YV RX3 217 RX3 yX3_tell cX3_tell 5 (some .int) 2 := ⟨lw_V q1195 q1197 qs64 q97 q1198, rfl, by decide, by decide, by decide +kernel⟩
theorem cs_X3_220 : YV RX3 220 RX3 yX3_copy cX3_copy 10 (some .int) 5 := ⟨lw_V q1199 q1201 qs65 q97 q1202, rfl, by decide, by decide, by decide +kernel⟩
theorem cs_X3_224 : YV RX3 224 RX3 yX3_divide cX3_divide 7 (some .int) 4 := ⟨lw_V q1206 q1208 qs66 q97 q1209, rfl, by decide, by decide, by decide +kernel⟩
theorem fg_X3_91_X3 : FG RX3 91 3 36 := ⟨RX3, TX3, 40, "ThrowReportsModel", rfl, by decide, in_X3, Or.inl q974, rfl⟩
theorem cs_X3_309 : YS RX3 309 yX3_wipe cX3_wipe 4 none 3 := ⟨lw_S q1271 q1272 q97 q1273, by decide, by decide, by decide +kernel⟩
theorem fg_X3_76_X3 : FG RX3 76 3 31 := ⟨RX3, TX3, 40, "ThrowReportsModel", rfl, by decide, in_X3, Or.inl q969, rfl⟩
theorem fg_X3_97_X3 : FG RX3 97 3 38 := ⟨RX3, TX3, 40, "ThrowReportsModel", rfl, by decide, in_X3, Or.inl q976, rfl⟩
theorem cs_X3_275 : YS RX3 275 yX3_join cX3_join 5 none 4 := ⟨lw_S q1286 q1287 q97 q1288, by decide, by decide, by decide +kernel⟩
theorem fg_X3_19_X3 : FG RX3 19 3 5 := ⟨RX3, TX3, 40, "ThrowReportsModel", rfl, by decide, in_X3, Or.inl q943, rfl⟩
theorem fp_X3_121_X3 : FP RX3 121 3 9 (tyX3 9) false := ⟨RX3, TX3, 40, "ThrowReportsModel", tyX3, rfl, by decide, in_X3, Or.inl q947, rfl, tyX3_ok, nmX3, rfl, (fun h => nomatch h), tyX3_ok 9 (by decide)⟩
theorem fp_X3_142_X3 : FP RX3 142 3 28 (tyX3 28) false := ⟨RX3, TX3, 40, "ThrowReportsModel", tyX3, rfl, by decide, in_X3, Or.inl q966, rfl, tyX3_ok, nmX3, rfl, (fun h => nomatch h), tyX3_ok 28 (by decide)⟩
theorem cs_X3_170 : YV RX3 170 RX3 yX3_itemOf cX3_itemOf 5 (some .int) 3 := ⟨lw_V q1161 q1163 qs57 q97 q1164, rfl, by decide, by decide, by decide +kernel⟩
theorem cs_X3_272 : YV RX3 272 RX3 yX3_startOf cX3_startOf 2 (some .int) 1 := ⟨lw_V q1263 q1265 qs72 q97 q1266, rfl, by decide, by decide, by decide +kernel⟩
theorem fg_X3_69_X3 : FG RX3 69 3 29 := ⟨RX3, TX3, 40, "ThrowReportsModel", rfl, by decide, in_X3, Or.inl q967, rfl⟩
theorem fg_X3_72_X3 : FG RX3 72 3 30 := ⟨RX3, TX3, 40, "ThrowReportsModel", rfl, by decide, in_X3, Or.inl q968, rfl⟩
theorem fp_X3_228_X3 : FP RX3 228 3 27 (tyX3 27) false := ⟨RX3, TX3, 40, "ThrowReportsModel", tyX3, rfl, by decide, in_X3, Or.inl q965, rfl, tyX3_ok, nmX3, rfl, (fun h => nomatch h), tyX3_ok 27 (by decide)⟩
theorem cs_X3_231 : YV RX3 231 RX3 yX3_push cX3_push 2 none 1 := ⟨lw_V q1108 q1110 qs45 q97 q1111, rfl, by decide, by decide, by decide +kernel⟩
theorem fg_X3_228_X3 : FG RX3 228 3 27 := ⟨RX3, TX3, 40, "ThrowReportsModel", rfl, by decide, in_X3, Or.inl q965, rfl⟩
theorem fg_X3_60_X3 : FG RX3 60 3 24 := ⟨RX3, TX3, 40, "ThrowReportsModel", rfl, by decide, in_X3, Or.inl q962, rfl⟩
theorem fg_X3_32_X3 : FG RX3 32 3 10 := ⟨RX3, TX3, 40, "ThrowReportsModel", rfl, by decide, in_X3, Or.inl q948, rfl⟩
theorem cs_X3_254 : YV RX3 254 RX3 yX3_ofAct cX3_ofAct 3 (some .int) 1 := ⟨lw_V q1112 q1114 qs46 q97 q1115, rfl, by decide, by decide, by decide +kernel⟩
theorem cs_X3_257 : YV RX3 257 RX3 yX3_ofGuard cX3_ofGuard 6 (some .int) 2 := ⟨lw_V q1211 q1213 qs67 q97 q1214, rfl, by decide, by decide, by decide +kernel⟩
theorem cs_X3_260 : YV RX3 260 RX3 yX3_ofOther cX3_ofOther 6 (some .int) 2 := ⟨lw_V q1219 q1221 qs69 q97 q1222, rfl, by decide, by decide, by decide +kernel⟩
theorem fg_X3_85_X3 : FG RX3 85 3 34 := ⟨RX3, TX3, 40, "ThrowReportsModel", rfl, by decide, in_X3, Or.inl q972, rfl⟩
theorem fg_X3_88_X3 : FG RX3 88 3 35 := ⟨RX3, TX3, 40, "ThrowReportsModel", rfl, by decide, in_X3, Or.inl q973, rfl⟩
theorem fg_X3_142_X3 : FG RX3 142 3 28 := ⟨RX3, TX3, 40, "ThrowReportsModel", rfl, by decide, in_X3, Or.inl q966, rfl⟩
theorem cs_X3_1 : YI RX3 1 yJ14_init cJ14_init 1 0 := ⟨lw_meth q129, q1383, q937, q128, rfl, by decide, by decide, by decide +kernel⟩
theorem fp_X3_7_X3 : FP RX3 7 3 2 (tyX3 2) true := ⟨RX3, TX3, 40, "ThrowReportsModel", tyX3, rfl, by decide, in_X3, Or.inl q940, rfl, tyX3_ok, nmX3, rfl, (fun _ => rfl), tyX3_ok 2 (by decide)⟩
theorem fp_X3_13_X3 : FP RX3 13 3 3 (tyX3 3) true := ⟨RX3, TX3, 40, "ThrowReportsModel", tyX3, rfl, by decide, in_X3, Or.inl q941, rfl, tyX3_ok, nmX3, rfl, (fun _ => rfl), tyX3_ok 3 (by decide)⟩
theorem fp_X3_16_X3 : FP RX3 16 3 4 (tyX3 4) true := ⟨RX3, TX3, 40, "ThrowReportsModel", tyX3, rfl, by decide, in_X3, Or.inl q942, rfl, tyX3_ok, nmX3, rfl, (fun _ => rfl), tyX3_ok 4 (by decide)⟩
theorem fp_X3_19_X3 : FP RX3 19 3 5 (tyX3 5) true := ⟨RX3, TX3, 40, "ThrowReportsModel", tyX3, rfl, by decide, in_X3, Or.inl q943, rfl, tyX3_ok, nmX3, rfl, (fun _ => rfl), tyX3_ok 5 (by decide)⟩
theorem fp_X3_22_X3 : FP RX3 22 3 6 (tyX3 6) true := ⟨RX3, TX3, 40, "ThrowReportsModel", tyX3, rfl, by decide, in_X3, Or.inl q944, rfl, tyX3_ok, nmX3, rfl, (fun _ => rfl), tyX3_ok 6 (by decide)⟩
theorem fp_X3_26_X3 : FP RX3 26 3 7 (tyX3 7) true := ⟨RX3, TX3, 40, "ThrowReportsModel", tyX3, rfl, by decide, in_X3, Or.inl q945, rfl, tyX3_ok, nmX3, rfl, (fun _ => rfl), tyX3_ok 7 (by decide)⟩
theorem fp_X3_29_X3 : FP RX3 29 3 8 (tyX3 8) true := ⟨RX3, TX3, 40, "ThrowReportsModel", tyX3, rfl, by decide, in_X3, Or.inl q946, rfl, tyX3_ok, nmX3, rfl, (fun _ => rfl), tyX3_ok 8 (by decide)⟩
theorem fp_X3_32_X3 : FP RX3 32 3 10 (tyX3 10) true := ⟨RX3, TX3, 40, "ThrowReportsModel", tyX3, rfl, by decide, in_X3, Or.inl q948, rfl, tyX3_ok, nmX3, rfl, (fun _ => rfl), tyX3_ok 10 (by decide)⟩
theorem fp_X3_35_X3 : FP RX3 35 3 11 (tyX3 11) true := ⟨RX3, TX3, 40, "ThrowReportsModel", tyX3, rfl, by decide, in_X3, Or.inl q949, rfl, tyX3_ok, nmX3, rfl, (fun _ => rfl), tyX3_ok 11 (by decide)⟩
theorem fp_X3_38_X3 : FP RX3 38 3 12 (tyX3 12) true := ⟨RX3, TX3, 40, "ThrowReportsModel", tyX3, rfl, by decide, in_X3, Or.inl q950, rfl, tyX3_ok, nmX3, rfl, (fun _ => rfl), tyX3_ok 12 (by decide)⟩
theorem fp_X3_41_X3 : FP RX3 41 3 13 (tyX3 13) true := ⟨RX3, TX3, 40, "ThrowReportsModel", tyX3, rfl, by decide, in_X3, Or.inl q951, rfl, tyX3_ok, nmX3, rfl, (fun _ => rfl), tyX3_ok 13 (by decide)⟩
theorem fp_X3_44_X3 : FP RX3 44 3 14 (tyX3 14) true := ⟨RX3, TX3, 40, "ThrowReportsModel", tyX3, rfl, by decide, in_X3, Or.inl q952, rfl, tyX3_ok, nmX3, rfl, (fun _ => rfl), tyX3_ok 14 (by decide)⟩
theorem fp_X3_47_X3 : FP RX3 47 3 15 (tyX3 15) true := ⟨RX3, TX3, 40, "ThrowReportsModel", tyX3, rfl, by decide, in_X3, Or.inl q953, rfl, tyX3_ok, nmX3, rfl, (fun _ => rfl), tyX3_ok 15 (by decide)⟩
theorem fp_X3_50_X3 : FP RX3 50 3 16 (tyX3 16) true := ⟨RX3, TX3, 40, "ThrowReportsModel", tyX3, rfl, by decide, in_X3, Or.inl q954, rfl, tyX3_ok, nmX3, rfl, (fun _ => rfl), tyX3_ok 16 (by decide)⟩
theorem fp_X3_53_X3 : FP RX3 53 3 22 (tyX3 22) false := ⟨RX3, TX3, 40, "ThrowReportsModel", tyX3, rfl, by decide, in_X3, Or.inl q960, rfl, tyX3_ok, nmX3, rfl, (fun h => nomatch h), tyX3_ok 22 (by decide)⟩
theorem fp_X3_57_X3 : FP RX3 57 3 23 (tyX3 23) true := ⟨RX3, TX3, 40, "ThrowReportsModel", tyX3, rfl, by decide, in_X3, Or.inl q961, rfl, tyX3_ok, nmX3, rfl, (fun _ => rfl), tyX3_ok 23 (by decide)⟩
theorem fp_X3_60_X3 : FP RX3 60 3 24 (tyX3 24) true := ⟨RX3, TX3, 40, "ThrowReportsModel", tyX3, rfl, by decide, in_X3, Or.inl q962, rfl, tyX3_ok, nmX3, rfl, (fun _ => rfl), tyX3_ok 24 (by decide)⟩
theorem fp_X3_63_X3 : FP RX3 63 3 25 (tyX3 25) true := ⟨RX3, TX3, 40, "ThrowReportsModel", tyX3, rfl, by decide, in_X3, Or.inl q963, rfl, tyX3_ok, nmX3, rfl, (fun _ => rfl), tyX3_ok 25 (by decide)⟩
theorem fp_X3_66_X3 : FP RX3 66 3 26 (tyX3 26) true := ⟨RX3, TX3, 40, "ThrowReportsModel", tyX3, rfl, by decide, in_X3, Or.inl q964, rfl, tyX3_ok, nmX3, rfl, (fun _ => rfl), tyX3_ok 26 (by decide)⟩
theorem fp_X3_69_X3 : FP RX3 69 3 29 (tyX3 29) true := ⟨RX3, TX3, 40, "ThrowReportsModel", tyX3, rfl, by decide, in_X3, Or.inl q967, rfl, tyX3_ok, nmX3, rfl, (fun _ => rfl), tyX3_ok 29 (by decide)⟩
theorem fp_X3_72_X3 : FP RX3 72 3 30 (tyX3 30) true := ⟨RX3, TX3, 40, "ThrowReportsModel", tyX3, rfl, by decide, in_X3, Or.inl q968, rfl, tyX3_ok, nmX3, rfl, (fun _ => rfl), tyX3_ok 30 (by decide)⟩
theorem fp_X3_76_X3 : FP RX3 76 3 31 (tyX3 31) true := ⟨RX3, TX3, 40, "ThrowReportsModel", tyX3, rfl, by decide, in_X3, Or.inl q969, rfl, tyX3_ok, nmX3, rfl, (fun _ => rfl), tyX3_ok 31 (by decide)⟩
theorem fp_X3_79_X3 : FP RX3 79 3 32 (tyX3 32) true := ⟨RX3, TX3, 40, "ThrowReportsModel", tyX3, rfl, by decide, in_X3, Or.inl q970, rfl, tyX3_ok, nmX3, rfl, (fun _ => rfl), tyX3_ok 32 (by decide)⟩
theorem fp_X3_82_X3 : FP RX3 82 3 33 (tyX3 33) true := ⟨RX3, TX3, 40, "ThrowReportsModel", tyX3, rfl, by decide, in_X3, Or.inl q971, rfl, tyX3_ok, nmX3, rfl, (fun _ => rfl), tyX3_ok 33 (by decide)⟩
theorem fp_X3_85_X3 : FP RX3 85 3 34 (tyX3 34) true := ⟨RX3, TX3, 40, "ThrowReportsModel", tyX3, rfl, by decide, in_X3, Or.inl q972, rfl, tyX3_ok, nmX3, rfl, (fun _ => rfl), tyX3_ok 34 (by decide)⟩
theorem fp_X3_88_X3 : FP RX3 88 3 35 (tyX3 35) true := ⟨RX3, TX3, 40, "ThrowReportsModel", tyX3, rfl, by decide, in_X3, Or.inl q973, rfl, tyX3_ok, nmX3, rfl, (fun _ => rfl), tyX3_ok 35 (by decide)⟩
theorem fp_X3_91_X3 : FP RX3 91 3 36 (tyX3 36) true := ⟨RX3, TX3, 40, "ThrowReportsModel", tyX3, rfl, by decide, in_X3, Or.inl q974, rfl, tyX3_ok, nmX3, rfl, (fun _ => rfl), tyX3_ok 36 (by decide)⟩
theorem fp_X3_94_X3 : FP RX3 94 3 37 (tyX3 37) true := ⟨RX3, TX3, 40, "ThrowReportsModel", tyX3, rfl, by decide, in_X3, Or.inl q975, rfl, tyX3_ok, nmX3, rfl, (fun _ => rfl), tyX3_ok 37 (by decide)⟩
theorem fp_X3_97_X3 : FP RX3 97 3 38 (tyX3 38) true := ⟨RX3, TX3, 40, "ThrowReportsModel", tyX3, rfl, by decide, in_X3, Or.inl q976, rfl, tyX3_ok, nmX3, rfl, (fun _ => rfl), tyX3_ok 38 (by decide)⟩
theorem fp_X3_100_X3 : FP RX3 100 3 39 (tyX3 39) true := ⟨RX3, TX3, 40, "ThrowReportsModel", tyX3, rfl, by decide, in_X3, Or.inl q977, rfl, tyX3_ok, nmX3, rfl, (fun _ => rfl), tyX3_ok 39 (by decide)⟩
theorem cs_X3_107 : YS RX3 107 yX3_mask cX3_mask 1 (some .int) 1 := ⟨lw_S q1154 q1155 q97 q1156, by decide, by decide, by decide +kernel⟩
theorem cs_X3_128 : YS RX3 128 yX3_isRegister cX3_isRegister 1 (some .boolean) 1 := ⟨lw_S q1073 q1074 q97 q1075, by decide, by decide, by decide +kernel⟩
theorem cs_X3_324 : YV RX3 324 RX3 yX3_put cX3_put 4 none 2 := ⟨lw_V q1339 q1341 qs87 q97 q1342, rfl, by decide, by decide, by decide +kernel⟩
theorem cs_X3_150 : YV RX3 150 RX3 yX3_as cX3_as 3 (some .int) 2 := ⟨lw_V q1146 q1148 qs54 q97 q1149, rfl, by decide, by decide, by decide +kernel⟩
theorem fg_X3_79_X3 : FG RX3 79 3 32 := ⟨RX3, TX3, 40, "ThrowReportsModel", rfl, by decide, in_X3, Or.inl q970, rfl⟩
theorem cs_X3_295 : YV RX3 295 RX3 yX3_mayNew cX3_mayNew 5 (some .boolean) 4 := ⟨lw_V q1296 q1298 qs77 q97 q1299, rfl, by decide, by decide, by decide +kernel⟩
theorem cs_X3_283 : YV RX3 283 RX3 yX3_mayAs cX3_mayAs 5 (some .boolean) 3 := ⟨lw_V q1304 q1306 qs79 q97 q1307, rfl, by decide, by decide, by decide +kernel⟩
theorem fg_X3_100_X3 : FG RX3 100 3 39 := ⟨RX3, TX3, 40, "ThrowReportsModel", rfl, by decide, in_X3, Or.inl q977, rfl⟩
theorem cs_X3_292 : YV RX3 292 RX3 yX3_mayItem cX3_mayItem 5 (some .boolean) 3 := ⟨lw_V q1308 q1310 qs80 q97 q1311, rfl, by decide, by decide, by decide +kernel⟩
theorem cs_X3_299 : YV RX3 299 RX3 yX3_mayTake cX3_mayTake 7 (some .boolean) 4 := ⟨lw_V q1316 q1318 qs82 q97 q1319, rfl, by decide, by decide, by decide +kernel⟩
theorem cs_X3_303 : YV RX3 303 RX3 yX3_mayLay cX3_mayLay 7 (some .boolean) 4 := ⟨lw_V q1320 q1322 qs83 q97 q1323, rfl, by decide, by decide, by decide +kernel⟩
theorem cs_X3_286 : YV RX3 286 RX3 yX3_mayRow cX3_mayRow 3 (some .boolean) 2 := ⟨lw_V q1312 q1314 qs81 q97 q1315, rfl, by decide, by decide, by decide +kernel⟩
theorem cs_X3_306 : YV RX3 306 RX3 yX3_mayCopy cX3_mayCopy 9 (some .boolean) 3 := ⟨lw_V q1324 q1326 qs84 q97 q1327, rfl, by decide, by decide, by decide +kernel⟩
theorem cs_X3_279 : YV RX3 279 RX3 yX3_mayFail cX3_mayFail 6 none 4 := ⟨lw_V q1300 q1302 qs78 q97 q1303, rfl, by decide, by decide, by decide +kernel⟩
theorem cs_X3_289 : YS RX3 289 yX3_partly cX3_partly 2 (some .boolean) 2 := ⟨lw_S q1328 q1329 q97 q1330, by decide, by decide, by decide +kernel⟩
theorem fg_X3_235_X3 : FG RX3 235 3 17 := ⟨RX3, TX3, 40, "ThrowReportsModel", rfl, by decide, in_X3, Or.inl q955, rfl⟩
theorem fp_X3_235_X3 : FP RX3 235 3 17 (tyX3 17) false := ⟨RX3, TX3, 40, "ThrowReportsModel", tyX3, rfl, by decide, in_X3, Or.inl q955, rfl, tyX3_ok, nmX3, rfl, (fun h => nomatch h), tyX3_ok 17 (by decide)⟩
theorem cs_X3_238 : YV RX3 238 RX3 yX3_done cX3_done 6 (some .int) 1 := ⟨lw_V q1116 q1118 qs47 q97 q1119, rfl, by decide, by decide, by decide +kernel⟩
theorem fg_X3_241_X3 : FG RX3 241 3 18 := ⟨RX3, TX3, 40, "ThrowReportsModel", rfl, by decide, in_X3, Or.inl q956, rfl⟩
theorem fp_X3_241_X3 : FP RX3 241 3 18 (tyX3 18) false := ⟨RX3, TX3, 40, "ThrowReportsModel", tyX3, rfl, by decide, in_X3, Or.inl q956, rfl, tyX3_ok, nmX3, rfl, (fun h => nomatch h), tyX3_ok 18 (by decide)⟩
theorem fg_X3_53_X3 : FG RX3 53 3 22 := ⟨RX3, TX3, 40, "ThrowReportsModel", rfl, by decide, in_X3, Or.inl q960, rfl⟩
theorem fg_X3_63_X3 : FG RX3 63 3 25 := ⟨RX3, TX3, 40, "ThrowReportsModel", rfl, by decide, in_X3, Or.inl q963, rfl⟩
theorem cs_X3_244 : YV RX3 244 RX3 yX3_step cX3_step 3 none 2 := ⟨lw_V q1215 q1217 qs68 q97 q1218, rfl, by decide, by decide, by decide +kernel⟩
theorem fg_X3_248_X3 : FG RX3 248 3 21 := ⟨RX3, TX3, 40, "ThrowReportsModel", rfl, by decide, in_X3, Or.inl q959, rfl⟩
theorem fg_X3_66_X3 : FG RX3 66 3 26 := ⟨RX3, TX3, 40, "ThrowReportsModel", rfl, by decide, in_X3, Or.inl q964, rfl⟩
theorem fp_X3_248_X3 : FP RX3 248 3 21 (tyX3 21) false := ⟨RX3, TX3, 40, "ThrowReportsModel", tyX3, rfl, by decide, in_X3, Or.inl q959, rfl, tyX3_ok, nmX3, rfl, (fun h => nomatch h), tyX3_ok 21 (by decide)⟩
theorem fg_X3_251_X3 : FG RX3 251 3 20 := ⟨RX3, TX3, 40, "ThrowReportsModel", rfl, by decide, in_X3, Or.inl q958, rfl⟩
theorem fp_X3_251_X3 : FP RX3 251 3 20 (tyX3 20) false := ⟨RX3, TX3, 40, "ThrowReportsModel", tyX3, rfl, by decide, in_X3, Or.inl q958, rfl, tyX3_ok, nmX3, rfl, (fun h => nomatch h), tyX3_ok 20 (by decide)⟩
theorem fg_X3_94_X3 : FG RX3 94 3 37 := ⟨RX3, TX3, 40, "ThrowReportsModel", rfl, by decide, in_X3, Or.inl q975, rfl⟩
theorem cs_X3_346 : YV RX3 346 RX3 yX3_through cX3_through 3 none 1 := ⟨lw_V q1274 q1276 qs73 q97 q1277, rfl, by decide, by decide, by decide +kernel⟩
theorem cs_X3_263 : YV RX3 263 RX3 yX3_goes cX3_goes 4 (some .int) 1 := ⟨lw_V q1104 q1106 qs44 q97 q1107, rfl, by decide, by decide, by decide +kernel⟩
theorem cs_X3_182 : YS RX3 182 yX3_told cX3_told 4 (some .long) 2 := ⟨lw_S q1173 q1174 q97 q1175, by decide, by decide, by decide +kernel⟩
theorem cs_X3_334 : YV RX3 334 RX3 yX3_throughAct cX3_throughAct 3 none 2 := ⟨lw_V q1278 q1280 qs74 q97 q1281, rfl, by decide, by decide, by decide +kernel⟩
theorem cs_X3_337 : YV RX3 337 RX3 yX3_throughBoth cX3_throughBoth 5 none 2 := ⟨lw_V q1335 q1337 qs86 q97 q1338, rfl, by decide, by decide, by decide +kernel⟩
theorem cs_X3_340 : YV RX3 340 RX3 yX3_throughChoice cX3_throughChoice 6 none 2 := ⟨lw_V q1343 q1345 qs88 q97 q1346, rfl, by decide, by decide, by decide +kernel⟩
theorem cs_X3_343 : YV RX3 343 RX3 yX3_throughGuard cX3_throughGuard 7 none 2 := ⟨lw_V q1347 q1349 qs89 q97 q1350, rfl, by decide, by decide, by decide +kernel⟩
theorem cs_X3_313 : YV RX3 313 RX3 yX3_enter cX3_enter 3 none 2 := ⟨lw_V q1282 q1284 qs75 q97 q1285, rfl, by decide, by decide, by decide +kernel⟩
theorem cs_X3_316 : YS RX3 316 yX3_lay_2 cX3_lay_2 5 none 4 := ⟨lw_S q1289 q1290 q97 q1291, by decide, by decide, by decide +kernel⟩
theorem cs_X3_318 : YV RX3 318 RX3 yX3_mayAct cX3_mayAct 7 (some .boolean) 2 := ⟨lw_V q1292 q1294 qs76 q97 q1295, rfl, by decide, by decide, by decide +kernel⟩
theorem cs_X3_321 : YV RX3 321 RX3 yX3_leave cX3_leave 4 none 2 := ⟨lw_V q1331 q1333 qs85 q97 q1334, rfl, by decide, by decide, by decide +kernel⟩
theorem cs_X3_327 : YV RX3 327 RX3 yX3_part cX3_part 5 none 2 := ⟨lw_V q1351 q1353 qs90 q97 q1354, rfl, by decide, by decide, by decide +kernel⟩
theorem cs_X3_330 : YV RX3 330 RX3 yX3_last cX3_last 7 none 3 := ⟨lw_V q1355 q1357 qs91 q97 q1358, rfl, by decide, by decide, by decide +kernel⟩
theorem cs_X3_266 : YV RX3 266 RX3 yX3_plainTwins cX3_plainTwins 5 (some .boolean) 2 := ⟨lw_V q1255 q1257 qs71 q97 q1258, rfl, by decide, by decide, by decide +kernel⟩
theorem fp_X4_41_X4 : FP RX4 41 4 11 (tyX4 11) false := ⟨RX4, TX4, 15, "ThrowReports$Node", tyX4, rfl, by decide, in_X4, Or.inl q243, rfl, tyX4_ok, nmX4, rfl, (fun h => nomatch h), tyX4_ok 11 (by decide)⟩
theorem fp_X4_44_X4 : FP RX4 44 4 13 (tyX4 13) false := ⟨RX4, TX4, 15, "ThrowReports$Node", tyX4, rfl, by decide, in_X4, Or.inl q247, rfl, tyX4_ok, nmX4, rfl, (fun h => nomatch h), tyX4_ok 13 (by decide)⟩
theorem fp_X4_47_X4 : FP RX4 47 4 14 (tyX4 14) false := ⟨RX4, TX4, 15, "ThrowReports$Node", tyX4, rfl, by decide, in_X4, Or.inl q249, rfl, tyX4_ok, nmX4, rfl, (fun h => nomatch h), tyX4_ok 14 (by decide)⟩
theorem fg_X4_15_X4 : FG RX4 15 4 12 := ⟨RX4, TX4, 15, "ThrowReports$Node", rfl, by decide, in_X4, Or.inl q245, rfl⟩
theorem cs_X4_3 : YI RX4 3 yJ14_init cJ14_init 1 0 := ⟨lw_meth q129, q1383, q223, q128, rfl, by decide, by decide, by decide +kernel⟩
theorem fp_X4_9_X4 : FP RX4 9 4 7 (tyX4 7) false := ⟨RX4, TX4, 15, "ThrowReports$Node", tyX4, rfl, by decide, in_X4, Or.inl q238, rfl, tyX4_ok, nmX4, rfl, (fun h => nomatch h), tyX4_ok 7 (by decide)⟩
theorem fp_X4_15_X4 : FP RX4 15 4 12 (tyX4 12) true := ⟨RX4, TX4, 15, "ThrowReports$Node", tyX4, rfl, by decide, in_X4, Or.inl q245, rfl, tyX4_ok, nmX4, rfl, (fun _ => rfl), tyX4_ok 12 (by decide)⟩
theorem fp_X4_19_X4 : FP RX4 19 4 0 (tyX4 0) true := ⟨RX4, TX4, 15, "ThrowReports$Node", tyX4, rfl, by decide, in_X4, Or.inl q224, rfl, tyX4_ok, nmX4, rfl, (fun _ => rfl), tyX4_ok 0 (by decide)⟩
theorem fp_X4_23_X4 : FP RX4 23 4 1 (tyX4 1) true := ⟨RX4, TX4, 15, "ThrowReports$Node", tyX4, rfl, by decide, in_X4, Or.inl q226, rfl, tyX4_ok, nmX4, rfl, (fun _ => rfl), tyX4_ok 1 (by decide)⟩
theorem fp_X4_26_X4 : FP RX4 26 4 2 (tyX4 2) true := ⟨RX4, TX4, 15, "ThrowReports$Node", tyX4, rfl, by decide, in_X4, Or.inl q228, rfl, tyX4_ok, nmX4, rfl, (fun _ => rfl), tyX4_ok 2 (by decide)⟩
theorem fp_X4_29_X4 : FP RX4 29 4 3 (tyX4 3) true := ⟨RX4, TX4, 15, "ThrowReports$Node", tyX4, rfl, by decide, in_X4, Or.inl q230, rfl, tyX4_ok, nmX4, rfl, (fun _ => rfl), tyX4_ok 3 (by decide)⟩
theorem fp_X4_32_X4 : FP RX4 32 4 4 (tyX4 4) true := ⟨RX4, TX4, 15, "ThrowReports$Node", tyX4, rfl, by decide, in_X4, Or.inl q232, rfl, tyX4_ok, nmX4, rfl, (fun _ => rfl), tyX4_ok 4 (by decide)⟩
theorem fp_X4_35_X4 : FP RX4 35 4 5 (tyX4 5) true := ⟨RX4, TX4, 15, "ThrowReports$Node", tyX4, rfl, by decide, in_X4, Or.inl q234, rfl, tyX4_ok, nmX4, rfl, (fun _ => rfl), tyX4_ok 5 (by decide)⟩
theorem fp_X4_38_X4 : FP RX4 38 4 6 (tyX4 6) true := ⟨RX4, TX4, 15, "ThrowReports$Node", tyX4, rfl, by decide, in_X4, Or.inl q236, rfl, tyX4_ok, nmX4, rfl, (fun _ => rfl), tyX4_ok 6 (by decide)⟩
theorem fg_X4_29_X4 : FG RX4 29 4 3 := ⟨RX4, TX4, 15, "ThrowReports$Node", rfl, by decide, in_X4, Or.inl q230, rfl⟩
theorem cs_X5_1 : YI RX5 1 yJ3_init_3 cJ3_init_3 5 4 := ⟨lw_meth q537, q103, q535, q536, rfl, by decide, by decide, by decide +kernel⟩
theorem cs_X6_1 : YI RX6 1 yJ14_init cJ14_init 1 0 := ⟨lw_meth q129, q1383, q565, q128, rfl, by decide, by decide, by decide +kernel⟩
theorem fp_X6_7_X6 : FP RX6 7 5 0 (tyX6 0) true := ⟨RX6, TX6, 1, "ThrowReports$Figure", tyX6, rfl, by decide, in_X6, Or.inl q566, rfl, tyX6_ok, nmX6, rfl, (fun _ => rfl), tyX6_ok 0 (by decide)⟩
theorem fp_X6_7_X7 : FP RX6 7 6 0 (tyX7 0) true := ⟨RX7, TX7, 1, "ThrowReports$Figure", tyX7, rfl, by decide, in_X7, Or.inl q566, rfl, tyX7_ok, nmX7, rfl, (fun _ => rfl), tyX7_ok 0 (by decide)⟩
theorem fg_X6_7_X6 : FG RX6 7 5 0 := ⟨RX6, TX6, 1, "ThrowReports$Figure", rfl, by decide, in_X6, Or.inl q566, rfl⟩
theorem fg_X6_7_X7 : FG RX6 7 6 0 := ⟨RX7, TX7, 1, "ThrowReports$Figure", rfl, by decide, in_X7, Or.inl q566, rfl⟩
theorem cs_X7_1 : YN RX7 1 yX6_init cX6_init 2 none 1 := ⟨lw_meth q564, q114, ⟨"ThrowReports", xw_t q575 rfl⟩, by decide, by decide, by decide +kernel⟩
theorem cs_X8_1 : YI RX8 1 yJ3_init_3 cJ3_init_3 5 4 := ⟨lw_meth q537, q103, q706, q536, rfl, by decide, by decide, by decide +kernel⟩
theorem fg_X9_18_X9 : FG RX9 18 7 1 := ⟨RX9, TX9, 2, "ThrowReports$Questions", rfl, by decide, in_X9, Or.inl q810, rfl⟩
theorem cs_X9_32 : YN RX9 32 yX1_with cX1_with 4 (some (.object "ThrowReports$State")) 2 := ⟨lw_meth q846, q95, ⟨"ThrowReports", xw_t q843 rfl⟩, by decide, by decide, by decide +kernel⟩
theorem fp_X9_18_X9 : FP RX9 18 7 1 (tyX9 1) false := ⟨RX9, TX9, 2, "ThrowReports$Questions", tyX9, rfl, by decide, in_X9, Or.inl q810, rfl, tyX9_ok, nmX9, rfl, (fun h => nomatch h), tyX9_ok 1 (by decide)⟩
theorem cs_X9_48 : YV RX9 48 RX9 yX9_end cX9_end 1 (some (.object "ThrowReports$Ways")) 0 := ⟨lw_V q848 q850 qs31 q120 q851, rfl, by decide, by decide, by decide +kernel⟩
theorem cs_X9_28 : YV RX9 28 RX9 yX9_set cX9_set 2 (some .int) 1 := ⟨lw_V q856 q858 qs33 q120 q859, rfl, by decide, by decide, by decide +kernel⟩
theorem cs_X9_40 : YN RX9 40 yX0_thatAre cX0_thatAre 4 (some .int) 2 := ⟨lw_meth q862, q94, ⟨"ThrowReports", xw_t q860 rfl⟩, by decide, by decide, by decide +kernel⟩
theorem cs_X9_44 : YV RX9 44 RX9 yX9_parts cX9_parts 5 none 3 := ⟨lw_V q863 q865 qs34 q120 q866, rfl, by decide, by decide, by decide +kernel⟩
theorem fg_X9_12_X9 : FG RX9 12 7 0 := ⟨RX9, TX9, 2, "ThrowReports$Questions", rfl, by decide, in_X9, Or.inl q809, rfl⟩
theorem cs_X9_36 : YN RX9 36 yX10_add cX10_add 3 none 2 := ⟨lw_meth q824, q121, ⟨"ThrowReports", xw_t q821 rfl⟩, by decide, by decide, by decide +kernel⟩
theorem cs_X9_3 : YI RX9 3 yJ14_init cJ14_init 1 0 := ⟨lw_meth q129, q1383, q795, q128, rfl, by decide, by decide, by decide +kernel⟩
theorem cs_X9_11 : YN RX9 11 yX10_init cX10_init 1 none 0 := ⟨lw_meth q800, q121, ⟨"ThrowReports", xw_t q798 rfl⟩, by decide, by decide, by decide +kernel⟩
theorem fp_X9_12_X9 : FP RX9 12 7 0 (tyX9 0) true := ⟨RX9, TX9, 2, "ThrowReports$Questions", tyX9, rfl, by decide, in_X9, Or.inl q809, rfl, tyX9_ok, nmX9, rfl, (fun _ => rfl), tyX9_ok 0 (by decide)⟩
theorem fg_X9_22_X1 : FG RX9 22 1 0 := ⟨RX1, TX1, 1, "ThrowReports$State", rfl, by decide, in_X1, Or.inr ⟨"ThrowReports", xw_t q141 rfl⟩, rfl⟩
