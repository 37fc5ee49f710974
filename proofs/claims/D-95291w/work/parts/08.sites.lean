/-! METHODS' INFOS AND SITES (by gen/gensites.py) -/
set_option maxRecDepth 100000
abbrev mJ0_init : MI := (yJ0_init, cJ0_init, 1, none)
abbrev mJ1_init : MI := (yJ1_init, cJ1_init, 1, none)
abbrev mJ10_init : MI := (yJ10_init, cJ10_init, 2, none)
abbrev mJ11_init : MI := (yJ11_init, cJ11_init, 2, none)
abbrev mJ12_init : MI := (yJ12_init, cJ12_init, 2, none)
abbrev mJ13_min : MI := (yJ13_min, cJ13_min, 2, some .int)
abbrev mJ13_max : MI := (yJ13_max, cJ13_max, 2, some .int)
abbrev mJ14_checkIndex : MI := (yJ14_checkIndex, cJ14_checkIndex, 2, some .int)
abbrev mJ15_checkIndex : MI := (yJ15_checkIndex, cJ15_checkIndex, 3, some .int)
abbrev mJ16_newLength : MI := (yJ16_newLength, cJ16_newLength, 4, some .int)
abbrev mJ16_hugeLength : MI := (yJ16_hugeLength, cJ16_hugeLength, 3, some .int)
abbrev mJ17_copyOf : MI := (yJ17_copyOf, cJ17_copyOf, 2, some (.array (.object "java/lang/Object")))
abbrev mJ17_copyOf_2 : MI := (yJ17_copyOf_2, cJ17_copyOf_2, 4, some (.array (.object "java/lang/Object")))
abbrev mJ18_init : MI := (yJ18_init, cJ18_init, 1, none)
abbrev mJ2_init : MI := (yJ2_init, cJ2_init, 1, none)
abbrev mJ2_size : MI := (yJ2_size, cJ2_size, 1, some .int)
abbrev mJ2_get : MI := (yJ2_get, cJ2_get, 2, some (.object "java/lang/Object"))
abbrev mJ2_elementData : MI := (yJ2_elementData, cJ2_elementData, 2, some (.object "java/lang/Object"))
abbrev mJ2_add : MI := (yJ2_add, cJ2_add, 2, some .boolean)
abbrev mJ2_add_2 : MI := (yJ2_add_2, cJ2_add_2, 4, none)
abbrev mJ2_grow : MI := (yJ2_grow, cJ2_grow, 1, some (.array (.object "java/lang/Object")))
abbrev mJ2_grow_2 : MI := (yJ2_grow_2, cJ2_grow_2, 4, some (.array (.object "java/lang/Object")))
abbrev mJ2_init_2 : MI := (yJ2_init_2, cJ2_init_2, 2, none)
abbrev mJ2_isEmpty : MI := (yJ2_isEmpty, cJ2_isEmpty, 1, some .boolean)
abbrev mJ2_clear : MI := (yJ2_clear, cJ2_clear, 4, none)
abbrev mJ2_addAll : MI := (yJ2_addAll, cJ2_addAll, 6, some .boolean)
abbrev mJ2_toArray : MI := (yJ2_toArray, cJ2_toArray, 1, some (.array (.object "java/lang/Object")))
abbrev mJ3_init : MI := (yJ3_init, cJ3_init, 2, none)
abbrev mJ3_init_2 : MI := (yJ3_init_2, cJ3_init_2, 1, none)
abbrev mJ4_init : MI := (yJ4_init, cJ4_init, 2, none)
abbrev mJ4_init_2 : MI := (yJ4_init_2, cJ4_init_2, 1, none)
abbrev mJ5_init : MI := (yJ5_init, cJ5_init, 2, none)
abbrev mJ5_init_2 : MI := (yJ5_init_2, cJ5_init_2, 1, none)
abbrev mJ6_init : MI := (yJ6_init, cJ6_init, 1, none)
abbrev mJ7_init : MI := (yJ7_init, cJ7_init, 2, none)
abbrev mJ9_init : MI := (yJ9_init, cJ9_init, 2, none)
abbrev mX0_init : MI := (yX0_init, cX0_init, 1, none)
abbrev mX0_ofMoon : MI := (yX0_ofMoon, cX0_ofMoon, 4, some .int)
abbrev mX0_noMoon : MI := (yX0_noMoon, cX0_noMoon, 2, some .boolean)
abbrev mX0_in : MI := (yX0_in, cX0_in, 6, some .boolean)
abbrev mX0_phase : MI := (yX0_phase, cX0_phase, 3, some .int)
abbrev mX0_isHour : MI := (yX0_isHour, cX0_isHour, 1, some .boolean)
abbrev mX0_level : MI := (yX0_level, cX0_level, 2, some .int)
abbrev mX0_levelIn : MI := (yX0_levelIn, cX0_levelIn, 4, some .int)
abbrev mX0_again : MI := (yX0_again, cX0_again, 4, some .int)
abbrev mX0_common : MI := (yX0_common, cX0_common, 2, some .int)
abbrev mX0_isAgain : MI := (yX0_isAgain, cX0_isAgain, 4, some .boolean)
abbrev mX0_road : MI := (yX0_road, cX0_road, 7, some .int)
abbrev mX0_noIsland : MI := (yX0_noIsland, cX0_noIsland, 2, some .boolean)
abbrev mX0_ofRoad : MI := (yX0_ofRoad, cX0_ofRoad, 3, some .int)
abbrev mX0_noRoad : MI := (yX0_noRoad, cX0_noRoad, 2, some .boolean)
abbrev mX0_mend : MI := (yX0_mend, cX0_mend, 3, some .int)
abbrev mX0_height : MI := (yX0_height, cX0_height, 3, some .int)
abbrev mX0_dry : MI := (yX0_dry, cX0_dry, 3, some .int)
abbrev mX0_isDry : MI := (yX0_isDry, cX0_isDry, 3, some .boolean)
abbrev mX0_dryHours : MI := (yX0_dryHours, cX0_dryHours, 7, some .long)
abbrev mX0_next : MI := (yX0_next, cX0_next, 5, some .int)
abbrev mX0_layLevels : MI := (yX0_layLevels, cX0_layLevels, 2, none)
abbrev mX0_layStarts : MI := (yX0_layStarts, cX0_layStarts, 6, none)
abbrev mX0_soonest : MI := (yX0_soonest, cX0_soonest, 5, some .int)
abbrev mX0_layAll : MI := (yX0_layAll, cX0_layAll, 3, none)
abbrev mX0_go : MI := (yX0_go, cX0_go, 11, none)
abbrev mX0_isIn : MI := (yX0_isIn, cX0_isIn, 2, some .boolean)
abbrev mX0_told : MI := (yX0_told, cX0_told, 1, some .int)
abbrev mX0_way : MI := (yX0_way, cX0_way, 8, some .int)
abbrev mX0_cameBy : MI := (yX0_cameBy, cX0_cameBy, 8, some .int)
abbrev mX0_latest : MI := (yX0_latest, cX0_latest, 8, some .int)
abbrev mX0_round : MI := (yX0_round, cX0_round, 4, some .int)
abbrev mX0_tryRounds : MI := (yX0_tryRounds, cX0_tryRounds, 6, none)
abbrev mX0_meeting : MI := (yX0_meeting, cX0_meeting, 6, some .int)
abbrev mX0_saves : MI := (yX0_saves, cX0_saves, 7, some .int)
abbrev mX0_noSheet : MI := (yX0_noSheet, cX0_noSheet, 1, some .boolean)
abbrev mX0_refused : MI := (yX0_refused, cX0_refused, 2, some .int)
abbrev mX0_rowOf : MI := (yX0_rowOf, cX0_rowOf, 2, some (.object "java/lang/Object"))
abbrev mX0_fails : MI := (yX0_fails, cX0_fails, 2, some .int)
abbrev mX0_lose : MI := (yX0_lose, cX0_lose, 3, some .int)
abbrev mX0_setIn : MI := (yX0_setIn, cX0_setIn, 3, none)
abbrev mX0_rowIn : MI := (yX0_rowIn, cX0_rowIn, 2, some (.object "java/lang/Object"))
abbrev mX0_cellOf : MI := (yX0_cellOf, cX0_cellOf, 3, some .int)
abbrev mX0_failsLong : MI := (yX0_failsLong, cX0_failsLong, 2, some .long)
abbrev mX0_sea : MI := (yX0_sea, cX0_sea, 5, some .int)
abbrev mX0_looked : MI := (yX0_looked, cX0_looked, 3, some .int)
abbrev mX0_cellsOf : MI := (yX0_cellsOf, cX0_cellsOf, 8, some (.array .int))
abbrev mX0_sizeOf : MI := (yX0_sizeOf, cX0_sizeOf, 2, some .int)
abbrev mX0_need : MI := (yX0_need, cX0_need, 1, none)
abbrev mX0_monthsOf : MI := (yX0_monthsOf, cX0_monthsOf, 5, some .int)
abbrev mX0_firstFalse : MI := (yX0_firstFalse, cX0_firstFalse, 4, some .int)
abbrev mX0_newSea : MI := (yX0_newSea, cX0_newSea, 8, some .int)
abbrev mX0_digitAt : MI := (yX0_digitAt, cX0_digitAt, 3, some .int)
abbrev mX0_twoAt : MI := (yX0_twoAt, cX0_twoAt, 6, some .int)
abbrev mX0_table : MI := (yX0_table, cX0_table, 6, some .int)
abbrev mX0_book : MI := (yX0_book, cX0_book, 5, some .int)
abbrev mX0_copy : MI := (yX0_copy, cX0_copy, 6, some .int)
abbrev mX0_tell : MI := (yX0_tell, cX0_tell, 2, some .int)
abbrev mX0_stake : MI := (yX0_stake, cX0_stake, 3, some .int)
abbrev mX0_as : MI := (yX0_as, cX0_as, 3, some .int)
abbrev mX0_trace : MI := (yX0_trace, cX0_trace, 1, some .int)
abbrev mX0_fault : MI := (yX0_fault, cX0_fault, 1, some .int)
abbrev mX0_many : MI := (yX0_many, cX0_many, 2, some .int)
abbrev mX1_init : MI := (yX1_init, cX1_init, 1, none)
abbrev mX1_sea : MI := (yX1_sea, cX1_sea, 8, some .int)
abbrev mX1_isSheet : MI := (yX1_isSheet, cX1_isSheet, 1, some .boolean)
abbrev mX1_within : MI := (yX1_within, cX1_within, 3, some .boolean)
abbrev mX1_isSort : MI := (yX1_isSort, cX1_isSort, 1, some .boolean)
abbrev mX1_against : MI := (yX1_against, cX1_against, 5, some .int)
abbrev mX1_fails : MI := (yX1_fails, cX1_fails, 2, some .int)
abbrev mX1_readSea : MI := (yX1_readSea, cX1_readSea, 2, some .boolean)
abbrev mX1_isCode : MI := (yX1_isCode, cX1_isCode, 3, some .boolean)
abbrev mX1_digitAt : MI := (yX1_digitAt, cX1_digitAt, 3, some .int)
abbrev mX1_readMoon : MI := (yX1_readMoon, cX1_readMoon, 3, some .boolean)
abbrev mX1_twoDigits : MI := (yX1_twoDigits, cX1_twoDigits, 7, some .int)
abbrev mX1_ofMoon : MI := (yX1_ofMoon, cX1_ofMoon, 3, some .int)
abbrev mX1_phase : MI := (yX1_phase, cX1_phase, 3, some .int)
abbrev mX1_isHour : MI := (yX1_isHour, cX1_isHour, 1, some .boolean)
abbrev mX1_level : MI := (yX1_level, cX1_level, 2, some .int)
abbrev mX1_isSea : MI := (yX1_isSea, cX1_isSea, 1, some .boolean)
abbrev mX1_levelAt : MI := (yX1_levelAt, cX1_levelAt, 5, some .int)
abbrev mX1_again : MI := (yX1_again, cX1_again, 4, some .int)
abbrev mX1_comesAgain : MI := (yX1_comesAgain, cX1_comesAgain, 4, some .boolean)
abbrev mX1_road : MI := (yX1_road, cX1_road, 6, some .int)
abbrev mX1_isIsland : MI := (yX1_isIsland, cX1_isIsland, 2, some .boolean)
abbrev mX1_ofRoad : MI := (yX1_ofRoad, cX1_ofRoad, 3, some .int)
abbrev mX1_isRoad : MI := (yX1_isRoad, cX1_isRoad, 2, some .boolean)
abbrev mX1_mend : MI := (yX1_mend, cX1_mend, 2, some .int)
abbrev mX1_height : MI := (yX1_height, cX1_height, 3, some .int)
abbrev mX1_heightAt : MI := (yX1_heightAt, cX1_heightAt, 4, some .int)
abbrev mX1_dry : MI := (yX1_dry, cX1_dry, 3, some .int)
abbrev mX1_isDry : MI := (yX1_isDry, cX1_isDry, 3, some .boolean)
abbrev mX1_dryHours : MI := (yX1_dryHours, cX1_dryHours, 7, some .long)
abbrev mX1_share : MI := (yX1_share, cX1_share, 11, some .long)
abbrev mX1_next : MI := (yX1_next, cX1_next, 5, some .int)
abbrev mX1_layRoad : MI := (yX1_layRoad, cX1_layRoad, 6, none)
abbrev mX1_soonest : MI := (yX1_soonest, cX1_soonest, 5, some .int)
abbrev mX1_layRoads : MI := (yX1_layRoads, cX1_layRoads, 3, none)
abbrev mX1_findThere : MI := (yX1_findThere, cX1_findThere, 5, none)
abbrev mX1_cross : MI := (yX1_cross, cX1_cross, 5, none)
abbrev mX1_toldHour : MI := (yX1_toldHour, cX1_toldHour, 1, some .int)
abbrev mX1_way : MI := (yX1_way, cX1_way, 6, some .int)
abbrev mX1_findWay : MI := (yX1_findWay, cX1_findWay, 5, none)
abbrev mX1_roadTo : MI := (yX1_roadTo, cX1_roadTo, 7, some .int)
abbrev mX1_latest : MI := (yX1_latest, cX1_latest, 8, some .int)
abbrev mX1_round : MI := (yX1_round, cX1_round, 8, some .int)
abbrev mX1_overBy : MI := (yX1_overBy, cX1_overBy, 6, some .int)
abbrev mX1_nextOrder : MI := (yX1_nextOrder, cX1_nextOrder, 6, some .boolean)
abbrev mX1_exchange : MI := (yX1_exchange, cX1_exchange, 4, none)
abbrev mX1_meeting : MI := (yX1_meeting, cX1_meeting, 6, some .int)
abbrev mX1_saves : MI := (yX1_saves, cX1_saves, 6, some .int)
abbrev mX1_table : MI := (yX1_table, cX1_table, 9, some .int)
abbrev mX1_book : MI := (yX1_book, cX1_book, 9, some .int)
abbrev mX1_isMonthOf : MI := (yX1_isMonthOf, cX1_isMonthOf, 5, some .boolean)
abbrev mX1_sheet : MI := (yX1_sheet, cX1_sheet, 5, some .int)
abbrev mX1_lose : MI := (yX1_lose, cX1_lose, 3, some .int)
abbrev mX1_put : MI := (yX1_put, cX1_put, 4, some .int)
abbrev mX1_cell : MI := (yX1_cell, cX1_cell, 4, some .long)
abbrev mX1_lost : MI := (yX1_lost, cX1_lost, 2, some .long)
abbrev mX1_copy : MI := (yX1_copy, cX1_copy, 10, some .int)
abbrev mX1_tell : MI := (yX1_tell, cX1_tell, 3, some .int)
abbrev mX1_begins : MI := (yX1_begins, cX1_begins, 2, none)
abbrev mX1_stake : MI := (yX1_stake, cX1_stake, 2, some .int)
abbrev mX1_as : MI := (yX1_as, cX1_as, 3, some .int)
abbrev mX1_trace : MI := (yX1_trace, cX1_trace, 1, some .int)
abbrev mX1_fault : MI := (yX1_fault, cX1_fault, 1, some .int)
abbrev mX1_many : MI := (yX1_many, cX1_many, 2, some .int)
abbrev mX10_look : MI := (yX10_look, cX10_look, 2, some .int)
abbrev mX10_init : MI := (yX10_init, cX10_init, 6, none)
abbrev mX11_init : MI := (yX11_init, cX11_init, 2, none)
abbrev mX12_done : MI := (yX12_done, cX12_done, 1, some .int)
abbrev mX12_init : MI := (yX12_init, cX12_init, 7, none)
abbrev mX13_done : MI := (yX13_done, cX13_done, 2, some .int)
abbrev mX13_init : MI := (yX13_init, cX13_init, 4, none)
abbrev mX14_staked : MI := (yX14_staked, cX14_staked, 1, some .int)
abbrev mX2_init : MI := (yX2_init, cX2_init, 2, none)
abbrev mX3_init : MI := (yX3_init, cX3_init, 6, none)
abbrev mX3_done : MI := (yX3_done, cX3_done, 1, some .int)
abbrev mX4_init : MI := (yX4_init, cX4_init, 6, none)
abbrev mX4_look : MI := (yX4_look, cX4_look, 2, some .int)
abbrev mX5_phase : MI := (yX5_phase, cX5_phase, 2, some .int)
abbrev mX5_draws : MI := (yX5_draws, cX5_draws, 3, some .int)
abbrev mX5_init : MI := (yX5_init, cX5_init, 4, none)
abbrev mX6_init : MI := (yX6_init, cX6_init, 7, none)
abbrev mX6_asked : MI := (yX6_asked, cX6_asked, 2, some .int)
abbrev mX6_kind : MI := (yX6_kind, cX6_kind, 1, some .int)
abbrev mX6_heightIn : MI := (yX6_heightIn, cX6_heightIn, 2, some .int)
abbrev mX6_takes : MI := (yX6_takes, cX6_takes, 2, some .int)
abbrev mX6_joins : MI := (yX6_joins, cX6_joins, 2, some .boolean)
abbrev mX6_other : MI := (yX6_other, cX6_other, 2, some .int)
abbrev mX6_tracedBy : MI := (yX6_tracedBy, cX6_tracedBy, 2, some .int)
abbrev mX6_said : MI := (yX6_said, cX6_said, 1, some .int)
abbrev mX6_number : MI := (yX6_number, cX6_number, 1, some .int)
abbrev mX7_init : MI := (yX7_init, cX7_init, 7, none)
abbrev mX7_kind : MI := (yX7_kind, cX7_kind, 1, some .int)
abbrev mX7_heightIn : MI := (yX7_heightIn, cX7_heightIn, 2, some .int)
abbrev mX7_said : MI := (yX7_said, cX7_said, 1, some .int)
abbrev mX7_plainly : MI := (yX7_plainly, cX7_plainly, 1, some .int)
abbrev mX8_init : MI := (yX8_init, cX8_init, 7, none)
abbrev mX8_kind : MI := (yX8_kind, cX8_kind, 1, some .int)
abbrev mX8_heightIn : MI := (yX8_heightIn, cX8_heightIn, 2, some .int)
abbrev mX8_said : MI := (yX8_said, cX8_said, 1, some .int)
abbrev mX8_staked : MI := (yX8_staked, cX8_staked, 1, some .int)
abbrev mX9_look : MI := (yX9_look, cX9_look, 2, some .int)
abbrev mX9_init : MI := (yX9_init, cX9_init, 7, none)
theorem sI_J1_1 : SiteI "java/util/AbstractList" 1 mJ0_init 0 := ⟨rfl, lw_meth q101, q51, q99, q100, rfl, by decide +kernel, by decide +kernel, by decide +kernel⟩
theorem sI_J10_7 : SiteI "java/lang/NegativeArraySizeException" 7 mJ5_init 1 := ⟨rfl, lw_meth q555, q60, q553, q554, rfl, by decide +kernel, by decide +kernel, by decide +kernel⟩
theorem sI_J11_7 : SiteI "java/lang/IndexOutOfBoundsException" 7 mJ5_init 1 := ⟨rfl, lw_meth q555, q60, q702, q554, rfl, by decide +kernel, by decide +kernel, by decide +kernel⟩
theorem sI_J12_7 : SiteI "java/lang/ArrayIndexOutOfBoundsException" 7 mJ11_init 1 := ⟨rfl, lw_meth q701, q66, q699, q700, rfl, by decide +kernel, by decide +kernel, by decide +kernel⟩
theorem sS_J14_105 : SiteS "java/util/Objects" 105 mJ15_checkIndex 3 := ⟨lw_S q200 q201 q70 q202, by decide +kernel, by decide +kernel, by decide +kernel⟩
theorem sS_J16_194 : SiteS "jdk/internal/util/ArraysSupport" 194 mJ13_max 2 := ⟨lw_S q354 q355 q68 q356, by decide +kernel, by decide +kernel, by decide +kernel⟩
theorem sS_J16_201 : SiteS "jdk/internal/util/ArraysSupport" 201 mJ16_hugeLength 2 := ⟨lw_S q358 q359 q72 q360, by decide +kernel, by decide +kernel, by decide +kernel⟩
theorem sS_J17_300 : SiteS "java/util/Arrays" 300 mJ17_copyOf_2 3 := ⟨lw_S q387 q388 q73 q389, by decide +kernel, by decide +kernel, by decide +kernel⟩
theorem sS_J17_304 : SiteS "java/util/Arrays" 304 mJ13_min 2 := ⟨lw_S q393 q234 q68 q235, by decide +kernel, by decide +kernel, by decide +kernel⟩
theorem sI_J2_1 : SiteI "java/util/ArrayList" 1 mJ1_init 0 := ⟨rfl, lw_meth q98, q52, q96, q97, rfl, by decide +kernel, by decide +kernel, by decide +kernel⟩
theorem sS_J2_118 : SiteS "java/util/ArrayList" 118 mJ14_checkIndex 2 := ⟨lw_S q197 q198 q69 q199, by decide +kernel, by decide +kernel, by decide +kernel⟩
theorem sV_J2_123_7 : SiteV "java/util/ArrayList" 123 7 mJ2_elementData 1 := ⟨RJ2, TJ2, 3, rfl, lw_V q203 q204 q205 q53 q206, rfl, by decide +kernel, by decide +kernel, by decide +kernel⟩
theorem sV_J2_131_7 : SiteV "java/util/ArrayList" 131 7 mJ2_add_2 3 := ⟨RJ2, TJ2, 3, rfl, lw_V q339 q341 qs4 q53 q342, rfl, by decide +kernel, by decide +kernel, by decide +kernel⟩
theorem sV_J2_129_7 : SiteV "java/util/ArrayList" 129 7 mJ2_grow 0 := ⟨RJ2, TJ2, 3, rfl, lw_V q343 q345 qs5 q53 q346, rfl, by decide +kernel, by decide +kernel, by decide +kernel⟩
theorem sV_J2_69_7 : SiteV "java/util/ArrayList" 69 7 mJ2_grow_2 1 := ⟨RJ2, TJ2, 3, rfl, lw_V q347 q349 qs6 q53 q350, rfl, by decide +kernel, by decide +kernel, by decide +kernel⟩
theorem sS_J2_73 : SiteS "java/util/ArrayList" 73 mJ16_newLength 3 := ⟨lw_S q351 q352 q72 q353, by decide +kernel, by decide +kernel, by decide +kernel⟩
theorem sS_J2_66 : SiteS "java/util/ArrayList" 66 mJ17_copyOf 2 := ⟨lw_S q361 q362 q73 q363, by decide +kernel, by decide +kernel, by decide +kernel⟩
theorem sS_J2_79 : SiteS "java/util/ArrayList" 79 mJ13_max 2 := ⟨lw_S q397 q355 q68 q356, by decide +kernel, by decide +kernel, by decide +kernel⟩
theorem sF_J2_42_7 : SiteF "java/util/ArrayList" 42 7 mJ2_toArray 0 := ⟨RJ2, TJ2, 3, ⟨"java/util/Collection", "toArray", "()[Ljava/lang/Object;"⟩, rfl, lw_app (List.forall_mem_cons.mpr ⟨q928, List.forall_mem_cons.mpr ⟨q932, List.forall_mem_cons.mpr ⟨q934, List.forall_mem_cons.mpr ⟨q53, fun _ h => absurd h List.not_mem_nil⟩⟩⟩⟩) (lw_meth q936), ⟨q930, q929, q935, q933, q931⟩, by decide +kernel, by decide +kernel, by decide +kernel⟩
theorem sI_J4_7 : SiteI "java/lang/Exception" 7 mJ3_init 1 := ⟨rfl, lw_meth q561, q58, q559, q560, rfl, by decide +kernel, by decide +kernel, by decide +kernel⟩
theorem sI_J4_1 : SiteI "java/lang/Exception" 1 mJ3_init_2 0 := ⟨rfl, lw_meth q629, q58, q679, q628, rfl, by decide +kernel, by decide +kernel, by decide +kernel⟩
theorem sI_J5_7 : SiteI "java/lang/RuntimeException" 7 mJ4_init 1 := ⟨rfl, lw_meth q558, q59, q556, q557, rfl, by decide +kernel, by decide +kernel, by decide +kernel⟩
theorem sI_J5_1 : SiteI "java/lang/RuntimeException" 1 mJ4_init_2 0 := ⟨rfl, lw_meth q678, q59, q676, q677, rfl, by decide +kernel, by decide +kernel, by decide +kernel⟩
theorem sI_J6_1 : SiteI "java/lang/NullPointerException" 1 mJ5_init_2 0 := ⟨rfl, lw_meth q675, q60, q673, q674, rfl, by decide +kernel, by decide +kernel, by decide +kernel⟩
theorem sI_J7_7 : SiteI "java/lang/ClassCastException" 7 mJ5_init 1 := ⟨rfl, lw_meth q555, q60, q728, q554, rfl, by decide +kernel, by decide +kernel, by decide +kernel⟩
theorem sI_J9_7 : SiteI "java/lang/ArrayStoreException" 7 mJ5_init 1 := ⟨rfl, lw_meth q555, q60, q807, q554, rfl, by decide +kernel, by decide +kernel, by decide +kernel⟩
theorem sI_X0_23 : SiteI "ThirdEbb" 23 mJ2_init 0 := ⟨rfl, lw_meth q95, q53, q93, q94, rfl, by decide +kernel, by decide +kernel, by decide +kernel⟩
theorem sV_X0_108_0 : SiteV "ThirdEbb" 108 0 mX0_noMoon 1 := ⟨RX0, TX0, 14, rfl, lw_V q171 q173 qs0 q50 q174, rfl, by decide +kernel, by decide +kernel, by decide +kernel⟩
theorem sF_X0_65_7 : SiteF "ThirdEbb" 65 7 mJ2_size 0 := ⟨RJ2, TJ2, 3, ⟨"java/util/List", "size", "()I"⟩, rfl, lw_app (List.forall_mem_cons.mpr ⟨q176, List.forall_mem_cons.mpr ⟨q180, List.forall_mem_cons.mpr ⟨q182, List.forall_mem_cons.mpr ⟨q53, fun _ h => absurd h List.not_mem_nil⟩⟩⟩⟩) (lw_meth q184), ⟨q178, q177, q183, q181, q179⟩, by decide +kernel, by decide +kernel, by decide +kernel⟩
theorem sS_X0_11 : SiteS "ThirdEbb" 11 mX0_in 3 := ⟨lw_S q185 q186 q50 q187, by decide +kernel, by decide +kernel, by decide +kernel⟩
theorem sF_X0_112_7 : SiteF "ThirdEbb" 112 7 mJ2_get 1 := ⟨RJ2, TJ2, 3, ⟨"java/util/List", "get", "(I)Ljava/lang/Object;"⟩, rfl, lw_app (List.forall_mem_cons.mpr ⟨q189, List.forall_mem_cons.mpr ⟨q192, List.forall_mem_cons.mpr ⟨q194, List.forall_mem_cons.mpr ⟨q53, fun _ h => absurd h List.not_mem_nil⟩⟩⟩⟩) (lw_meth q196), ⟨q191, q190, q195, q193, q179⟩, by decide +kernel, by decide +kernel, by decide +kernel⟩
theorem sS_X0_125 : SiteS "ThirdEbb" 125 mX0_isHour 1 := ⟨lw_S q212 q213 q50 q214, by decide +kernel, by decide +kernel, by decide +kernel⟩
theorem sV_X0_128_2 : SiteV "ThirdEbb" 128 2 mX5_phase 1 := ⟨RX5, TX5, 3, rfl, lw_V q216 q217 q218 q71 q219, rfl, by decide +kernel, by decide +kernel, by decide +kernel⟩
theorem sV_X0_135_0 : SiteV "ThirdEbb" 135 0 mX0_levelIn 1 := ⟨RX0, TX0, 14, rfl, lw_V q224 q226 qs1 q50 q227, rfl, by decide +kernel, by decide +kernel, by decide +kernel⟩
theorem sV_X0_132_2 : SiteV "ThirdEbb" 132 2 mX5_draws 1 := ⟨RX5, TX5, 3, rfl, lw_V q228 q229 q230 q71 q231, rfl, by decide +kernel, by decide +kernel, by decide +kernel⟩
theorem sS_X0_5 : SiteS "ThirdEbb" 5 mX0_common 2 := ⟨lw_S q240 q241 q50 q242, by decide +kernel, by decide +kernel, by decide +kernel⟩
theorem sV_X0_138_0 : SiteV "ThirdEbb" 138 0 mX0_isAgain 2 := ⟨RX0, TX0, 14, rfl, lw_V q243 q245 qs2 q50 q246, rfl, by decide +kernel, by decide +kernel, by decide +kernel⟩
theorem sV_X0_142_0 : SiteV "ThirdEbb" 142 0 mX0_noIsland 1 := ⟨RX0, TX0, 14, rfl, lw_V q251 q253 qs3 q50 q254, rfl, by decide +kernel, by decide +kernel, by decide +kernel⟩
theorem sI_X0_149 : SiteI "ThirdEbb" 149 mX6_init 6 := ⟨rfl, lw_meth q262, q75, q260, q261, rfl, by decide +kernel, by decide +kernel, by decide +kernel⟩
theorem sI_X0_154 : SiteI "ThirdEbb" 154 mX7_init 6 := ⟨rfl, lw_meth q299, q76, q297, q298, rfl, by decide +kernel, by decide +kernel, by decide +kernel⟩
theorem sI_X0_157 : SiteI "ThirdEbb" 157 mX8_init 6 := ⟨rfl, lw_meth q316, q77, q314, q315, rfl, by decide +kernel, by decide +kernel, by decide +kernel⟩
theorem sF_X0_97_7 : SiteF "ThirdEbb" 97 7 mJ2_add 1 := ⟨RJ2, TJ2, 3, ⟨"java/util/List", "add", "(Ljava/lang/Object;)Z"⟩, rfl, lw_app (List.forall_mem_cons.mpr ⟨q331, List.forall_mem_cons.mpr ⟨q334, List.forall_mem_cons.mpr ⟨q336, List.forall_mem_cons.mpr ⟨q53, fun _ h => absurd h List.not_mem_nil⟩⟩⟩⟩) (lw_meth q338), ⟨q333, q332, q337, q335, q179⟩, by decide +kernel, by decide +kernel, by decide +kernel⟩
theorem sV_X0_158_0 : SiteV "ThirdEbb" 158 0 mX0_noRoad 1 := ⟨RX0, TX0, 14, rfl, lw_V q403 q405 qs7 q50 q406, rfl, by decide +kernel, by decide +kernel, by decide +kernel⟩
theorem sV_X0_161_3 : SiteV "ThirdEbb" 161 3 mX6_asked 1 := ⟨RX6, TX6, 7, rfl, lw_V q407 q408 q409 q75 q413, rfl, by decide +kernel, by decide +kernel, by decide +kernel⟩
theorem sU_X0_161_4 : SiteU "ThirdEbb" 161 4 mX6_asked 1 := ⟨RX7, TX7, 8, "ThirdEbb$Soft", ⟨"ThirdEbb$Soft", "asked", "(I)I"⟩, rfl, fun R s args rm mc ms ht hrc hrs hR => va_cwU 1 ht (lw_app (List.forall_mem_cons.mpr ⟨q407, List.forall_mem_cons.mpr ⟨q410, List.forall_mem_cons.mpr ⟨q411, List.forall_mem_cons.mpr ⟨q408, List.forall_mem_cons.mpr ⟨q75, fun _ h => absurd h List.not_mem_nil⟩⟩⟩⟩⟩) (lw_meth q413)) rfl hrc hrs rfl ⟨by decide +kernel, by decide +kernel, by decide +kernel⟩ hR⟩
theorem sU_X0_161_5 : SiteU "ThirdEbb" 161 5 mX6_asked 1 := ⟨RX8, TX8, 9, "ThirdEbb$Soft", ⟨"ThirdEbb$Soft", "asked", "(I)I"⟩, rfl, fun R s args rm mc ms ht hrc hrs hR => va_cwU 1 ht (lw_app (List.forall_mem_cons.mpr ⟨q407, List.forall_mem_cons.mpr ⟨q410, List.forall_mem_cons.mpr ⟨q412, List.forall_mem_cons.mpr ⟨q408, List.forall_mem_cons.mpr ⟨q75, fun _ h => absurd h List.not_mem_nil⟩⟩⟩⟩⟩) (lw_meth q413)) rfl hrc hrs rfl ⟨by decide +kernel, by decide +kernel, by decide +kernel⟩ hR⟩
theorem sV_X0_164_3 : SiteV "ThirdEbb" 164 3 mX6_kind 0 := ⟨RX6, TX6, 7, rfl, lw_V q429 q415 q416 q75 q424, rfl, by decide +kernel, by decide +kernel, by decide +kernel⟩
theorem sU_X0_164_4 : SiteU "ThirdEbb" 164 4 mX7_kind 0 := ⟨RX7, TX7, 8, "ThirdEbb$Soft", ⟨"ThirdEbb$Soft", "kind", "()I"⟩, rfl, fun R s args rm mc ms ht hrc hrs hR => va_cwO 0 ht (lw_app (List.forall_mem_cons.mpr ⟨q429, List.forall_mem_cons.mpr ⟨q417, List.forall_mem_cons.mpr ⟨q415, List.forall_mem_cons.mpr ⟨q418, List.forall_mem_cons.mpr ⟨q419, List.forall_mem_cons.mpr ⟨q76, fun _ h => absurd h List.not_mem_nil⟩⟩⟩⟩⟩⟩) (lw_meth q420)) rfl hrc hrs q424 ⟨by decide +kernel, by decide +kernel, by decide +kernel⟩ hR⟩
theorem sU_X0_164_5 : SiteU "ThirdEbb" 164 5 mX8_kind 0 := ⟨RX8, TX8, 9, "ThirdEbb$Soft", ⟨"ThirdEbb$Soft", "kind", "()I"⟩, rfl, fun R s args rm mc ms ht hrc hrs hR => va_cwO 0 ht (lw_app (List.forall_mem_cons.mpr ⟨q429, List.forall_mem_cons.mpr ⟨q417, List.forall_mem_cons.mpr ⟨q415, List.forall_mem_cons.mpr ⟨q421, List.forall_mem_cons.mpr ⟨q422, List.forall_mem_cons.mpr ⟨q77, fun _ h => absurd h List.not_mem_nil⟩⟩⟩⟩⟩⟩) (lw_meth q423)) rfl hrc hrs q424 ⟨by decide +kernel, by decide +kernel, by decide +kernel⟩ hR⟩
theorem sV_X0_170_3 : SiteV "ThirdEbb" 170 3 mX6_heightIn 1 := ⟨RX6, TX6, 7, rfl, lw_V q434 q435 q436 q75 q447, rfl, by decide +kernel, by decide +kernel, by decide +kernel⟩
theorem sU_X0_170_4 : SiteU "ThirdEbb" 170 4 mX7_heightIn 1 := ⟨RX7, TX7, 8, "ThirdEbb$Soft", ⟨"ThirdEbb$Soft", "heightIn", "(I)I"⟩, rfl, fun R s args rm mc ms ht hrc hrs hR => va_cwO 1 ht (lw_app (List.forall_mem_cons.mpr ⟨q434, List.forall_mem_cons.mpr ⟨q437, List.forall_mem_cons.mpr ⟨q435, List.forall_mem_cons.mpr ⟨q438, List.forall_mem_cons.mpr ⟨q439, List.forall_mem_cons.mpr ⟨q76, fun _ h => absurd h List.not_mem_nil⟩⟩⟩⟩⟩⟩) (lw_meth q440)) rfl hrc hrs q447 ⟨by decide +kernel, by decide +kernel, by decide +kernel⟩ hR⟩
theorem sU_X0_170_5 : SiteU "ThirdEbb" 170 5 mX8_heightIn 1 := ⟨RX8, TX8, 9, "ThirdEbb$Soft", ⟨"ThirdEbb$Soft", "heightIn", "(I)I"⟩, rfl, fun R s args rm mc ms ht hrc hrs hR => va_cwO 1 ht (lw_app (List.forall_mem_cons.mpr ⟨q434, List.forall_mem_cons.mpr ⟨q437, List.forall_mem_cons.mpr ⟨q435, List.forall_mem_cons.mpr ⟨q442, List.forall_mem_cons.mpr ⟨q443, List.forall_mem_cons.mpr ⟨q77, fun _ h => absurd h List.not_mem_nil⟩⟩⟩⟩⟩⟩) (lw_meth q444)) rfl hrc hrs q447 ⟨by decide +kernel, by decide +kernel, by decide +kernel⟩ hR⟩
theorem sV_X0_173_0 : SiteV "ThirdEbb" 173 0 mX0_isDry 2 := ⟨RX0, TX0, 14, rfl, lw_V q452 q454 qs8 q50 q455, rfl, by decide +kernel, by decide +kernel, by decide +kernel⟩
theorem sV_X0_188_0 : SiteV "ThirdEbb" 188 0 mX0_layLevels 0 := ⟨RX0, TX0, 14, rfl, lw_V q466 q468 qs9 q50 q469, rfl, by decide +kernel, by decide +kernel, by decide +kernel⟩
theorem sV_X0_191_0 : SiteV "ThirdEbb" 191 0 mX0_layStarts 2 := ⟨RX0, TX0, 14, rfl, lw_V q470 q472 qs10 q50 q473, rfl, by decide +kernel, by decide +kernel, by decide +kernel⟩
theorem sV_X0_184_3 : SiteV "ThirdEbb" 184 3 mX6_takes 1 := ⟨RX6, TX6, 7, rfl, lw_V q474 q475 q476 q75 q480, rfl, by decide +kernel, by decide +kernel, by decide +kernel⟩
theorem sU_X0_184_4 : SiteU "ThirdEbb" 184 4 mX6_takes 1 := ⟨RX7, TX7, 8, "ThirdEbb$Soft", ⟨"ThirdEbb$Soft", "takes", "(Z)I"⟩, rfl, fun R s args rm mc ms ht hrc hrs hR => va_cwU 1 ht (lw_app (List.forall_mem_cons.mpr ⟨q474, List.forall_mem_cons.mpr ⟨q477, List.forall_mem_cons.mpr ⟨q478, List.forall_mem_cons.mpr ⟨q475, List.forall_mem_cons.mpr ⟨q75, fun _ h => absurd h List.not_mem_nil⟩⟩⟩⟩⟩) (lw_meth q480)) rfl hrc hrs rfl ⟨by decide +kernel, by decide +kernel, by decide +kernel⟩ hR⟩
theorem sU_X0_184_5 : SiteU "ThirdEbb" 184 5 mX6_takes 1 := ⟨RX8, TX8, 9, "ThirdEbb$Soft", ⟨"ThirdEbb$Soft", "takes", "(Z)I"⟩, rfl, fun R s args rm mc ms ht hrc hrs hR => va_cwU 1 ht (lw_app (List.forall_mem_cons.mpr ⟨q474, List.forall_mem_cons.mpr ⟨q477, List.forall_mem_cons.mpr ⟨q479, List.forall_mem_cons.mpr ⟨q475, List.forall_mem_cons.mpr ⟨q75, fun _ h => absurd h List.not_mem_nil⟩⟩⟩⟩⟩) (lw_meth q480)) rfl hrc hrs rfl ⟨by decide +kernel, by decide +kernel, by decide +kernel⟩ hR⟩
theorem sV_X0_209_0 : SiteV "ThirdEbb" 209 0 mX0_layAll 1 := ⟨RX0, TX0, 14, rfl, lw_V q485 q487 qs11 q50 q488, rfl, by decide +kernel, by decide +kernel, by decide +kernel⟩
theorem sV_X0_213_0 : SiteV "ThirdEbb" 213 0 mX0_go 3 := ⟨RX0, TX0, 14, rfl, lw_V q489 q491 qs12 q50 q492, rfl, by decide +kernel, by decide +kernel, by decide +kernel⟩
theorem sS_X0_195 : SiteS "ThirdEbb" 195 mX0_isIn 2 := ⟨lw_S q493 q494 q50 q495, by decide +kernel, by decide +kernel, by decide +kernel⟩
theorem sV_X0_198_3 : SiteV "ThirdEbb" 198 3 mX6_joins 1 := ⟨RX6, TX6, 7, rfl, lw_V q496 q497 q498 q75 q502, rfl, by decide +kernel, by decide +kernel, by decide +kernel⟩
theorem sU_X0_198_4 : SiteU "ThirdEbb" 198 4 mX6_joins 1 := ⟨RX7, TX7, 8, "ThirdEbb$Soft", ⟨"ThirdEbb$Soft", "joins", "(I)Z"⟩, rfl, fun R s args rm mc ms ht hrc hrs hR => va_cwU 1 ht (lw_app (List.forall_mem_cons.mpr ⟨q496, List.forall_mem_cons.mpr ⟨q499, List.forall_mem_cons.mpr ⟨q500, List.forall_mem_cons.mpr ⟨q497, List.forall_mem_cons.mpr ⟨q75, fun _ h => absurd h List.not_mem_nil⟩⟩⟩⟩⟩) (lw_meth q502)) rfl hrc hrs rfl ⟨by decide +kernel, by decide +kernel, by decide +kernel⟩ hR⟩
theorem sU_X0_198_5 : SiteU "ThirdEbb" 198 5 mX6_joins 1 := ⟨RX8, TX8, 9, "ThirdEbb$Soft", ⟨"ThirdEbb$Soft", "joins", "(I)Z"⟩, rfl, fun R s args rm mc ms ht hrc hrs hR => va_cwU 1 ht (lw_app (List.forall_mem_cons.mpr ⟨q496, List.forall_mem_cons.mpr ⟨q499, List.forall_mem_cons.mpr ⟨q501, List.forall_mem_cons.mpr ⟨q497, List.forall_mem_cons.mpr ⟨q75, fun _ h => absurd h List.not_mem_nil⟩⟩⟩⟩⟩) (lw_meth q502)) rfl hrc hrs rfl ⟨by decide +kernel, by decide +kernel, by decide +kernel⟩ hR⟩
theorem sV_X0_201_3 : SiteV "ThirdEbb" 201 3 mX6_other 1 := ⟨RX6, TX6, 7, rfl, lw_V q503 q504 q505 q75 q509, rfl, by decide +kernel, by decide +kernel, by decide +kernel⟩
theorem sU_X0_201_4 : SiteU "ThirdEbb" 201 4 mX6_other 1 := ⟨RX7, TX7, 8, "ThirdEbb$Soft", ⟨"ThirdEbb$Soft", "other", "(I)I"⟩, rfl, fun R s args rm mc ms ht hrc hrs hR => va_cwU 1 ht (lw_app (List.forall_mem_cons.mpr ⟨q503, List.forall_mem_cons.mpr ⟨q506, List.forall_mem_cons.mpr ⟨q507, List.forall_mem_cons.mpr ⟨q504, List.forall_mem_cons.mpr ⟨q75, fun _ h => absurd h List.not_mem_nil⟩⟩⟩⟩⟩) (lw_meth q509)) rfl hrc hrs rfl ⟨by decide +kernel, by decide +kernel, by decide +kernel⟩ hR⟩
theorem sU_X0_201_5 : SiteU "ThirdEbb" 201 5 mX6_other 1 := ⟨RX8, TX8, 9, "ThirdEbb$Soft", ⟨"ThirdEbb$Soft", "other", "(I)I"⟩, rfl, fun R s args rm mc ms ht hrc hrs hR => va_cwU 1 ht (lw_app (List.forall_mem_cons.mpr ⟨q503, List.forall_mem_cons.mpr ⟨q506, List.forall_mem_cons.mpr ⟨q508, List.forall_mem_cons.mpr ⟨q504, List.forall_mem_cons.mpr ⟨q75, fun _ h => absurd h List.not_mem_nil⟩⟩⟩⟩⟩) (lw_meth q509)) rfl hrc hrs rfl ⟨by decide +kernel, by decide +kernel, by decide +kernel⟩ hR⟩
theorem sS_X0_204 : SiteS "ThirdEbb" 204 mJ13_min 2 := ⟨lw_S q510 q234 q68 q235, by decide +kernel, by decide +kernel, by decide +kernel⟩
theorem sS_X0_217 : SiteS "ThirdEbb" 217 mX0_told 1 := ⟨lw_S q511 q512 q50 q513, by decide +kernel, by decide +kernel, by decide +kernel⟩
theorem sV_X0_220_0 : SiteV "ThirdEbb" 220 0 mX0_cameBy 2 := ⟨RX0, TX0, 14, rfl, lw_V q518 q520 qs13 q50 q521, rfl, by decide +kernel, by decide +kernel, by decide +kernel⟩
theorem sV_X0_233_0 : SiteV "ThirdEbb" 233 0 mX0_tryRounds 4 := ⟨RX0, TX0, 14, rfl, lw_V q531 q533 qs14 q50 q534, rfl, by decide +kernel, by decide +kernel, by decide +kernel⟩
theorem sS_X0_239 : SiteS "ThirdEbb" 239 mJ13_max 2 := ⟨lw_S q540 q355 q68 q356, by decide +kernel, by decide +kernel, by decide +kernel⟩
theorem sS_X0_256 : SiteS "ThirdEbb" 256 mX0_noSheet 1 := ⟨lw_S q636 q637 q50 q638, by decide +kernel, by decide +kernel, by decide +kernel⟩
theorem sV_X0_259_0 : SiteV "ThirdEbb" 259 0 mX0_refused 1 := ⟨RX0, TX0, 14, rfl, lw_V q640 q642 qs17 q50 q643, rfl, by decide +kernel, by decide +kernel, by decide +kernel⟩
theorem sS_X0_262 : SiteS "ThirdEbb" 262 mX0_rowOf 2 := ⟨lw_S q645 q646 q50 q647, by decide +kernel, by decide +kernel, by decide +kernel⟩
theorem sI_X0_266 : SiteI "ThirdEbb" 266 mX11_init 1 := ⟨rfl, lw_meth q650, q80, q648, q649, rfl, by decide +kernel, by decide +kernel, by decide +kernel⟩
theorem sV_X0_271_0 : SiteV "ThirdEbb" 271 0 mX0_fails 1 := ⟨RX0, TX0, 14, rfl, lw_V q658 q660 qs18 q50 q661, rfl, by decide +kernel, by decide +kernel, by decide +kernel⟩
theorem sS_X0_274 : SiteS "ThirdEbb" 274 mX0_setIn 3 := ⟨lw_S q714 q715 q50 q716, by decide +kernel, by decide +kernel, by decide +kernel⟩
theorem sV_X0_282_0 : SiteV "ThirdEbb" 282 0 mX0_rowIn 1 := ⟨RX0, TX0, 14, rfl, lw_V q738 q740 qs19 q50 q741, rfl, by decide +kernel, by decide +kernel, by decide +kernel⟩
theorem sS_X0_285 : SiteS "ThirdEbb" 285 mX0_cellOf 3 := ⟨lw_S q742 q743 q50 q744, by decide +kernel, by decide +kernel, by decide +kernel⟩
theorem sV_X0_289_0 : SiteV "ThirdEbb" 289 0 mX0_failsLong 1 := ⟨RX0, TX0, 14, rfl, lw_V q745 q747 qs20 q50 q748, rfl, by decide +kernel, by decide +kernel, by decide +kernel⟩
theorem sI_X0_320 : SiteI "ThirdEbb" 320 mX4_init 5 := ⟨rfl, lw_meth q757, q57, q755, q756, rfl, by decide +kernel, by decide +kernel, by decide +kernel⟩
theorem sV_X0_323_0 : SiteV "ThirdEbb" 323 0 mX0_looked 2 := ⟨RX0, TX0, 14, rfl, lw_V q789 q791 qs21 q50 q792, rfl, by decide +kernel, by decide +kernel, by decide +kernel⟩
theorem sS_X0_300 : SiteS "ThirdEbb" 300 mX0_sizeOf 2 := ⟨lw_S q829 q830 q50 q831, by decide +kernel, by decide +kernel, by decide +kernel⟩
theorem sS_X0_304 : SiteS "ThirdEbb" 304 mX0_need 1 := ⟨lw_S q832 q833 q50 q834, by decide +kernel, by decide +kernel, by decide +kernel⟩
theorem sI_X0_297 : SiteI "ThirdEbb" 297 mJ11_init 1 := ⟨rfl, lw_meth q701, q66, q844, q700, rfl, by decide +kernel, by decide +kernel, by decide +kernel⟩
theorem sS_X0_73 : SiteS "ThirdEbb" 73 mX0_digitAt 2 := ⟨lw_S q870 q871 q50 q872, by decide +kernel, by decide +kernel, by decide +kernel⟩
theorem sI_X0_81 : SiteI "ThirdEbb" 81 mJ2_init_2 1 := ⟨rfl, lw_meth q876, q53, q874, q875, rfl, by decide +kernel, by decide +kernel, by decide +kernel⟩
theorem sF_X0_84_7 : SiteF "ThirdEbb" 84 7 mJ2_isEmpty 0 := ⟨RJ2, TJ2, 3, ⟨"java/util/List", "isEmpty", "()Z"⟩, rfl, lw_app (List.forall_mem_cons.mpr ⟨q880, List.forall_mem_cons.mpr ⟨q883, List.forall_mem_cons.mpr ⟨q885, List.forall_mem_cons.mpr ⟨q53, fun _ h => absurd h List.not_mem_nil⟩⟩⟩⟩) (lw_meth q887), ⟨q882, q881, q886, q884, q179⟩, by decide +kernel, by decide +kernel, by decide +kernel⟩
theorem sS_X0_88 : SiteS "ThirdEbb" 88 mX0_twoAt 4 := ⟨lw_S q888 q889 q50 q890, by decide +kernel, by decide +kernel, by decide +kernel⟩
theorem sI_X0_94 : SiteI "ThirdEbb" 94 mX5_init 3 := ⟨rfl, lw_meth q894, q71, q892, q893, rfl, by decide +kernel, by decide +kernel, by decide +kernel⟩
theorem sF_X0_101_7 : SiteF "ThirdEbb" 101 7 mJ2_clear 0 := ⟨RJ2, TJ2, 3, ⟨"java/util/List", "clear", "()V"⟩, rfl, lw_app (List.forall_mem_cons.mpr ⟨q910, List.forall_mem_cons.mpr ⟨q913, List.forall_mem_cons.mpr ⟨q915, List.forall_mem_cons.mpr ⟨q53, fun _ h => absurd h List.not_mem_nil⟩⟩⟩⟩) (lw_meth q917), ⟨q912, q911, q916, q914, q179⟩, by decide +kernel, by decide +kernel, by decide +kernel⟩
theorem sF_X0_104_7 : SiteF "ThirdEbb" 104 7 mJ2_addAll 1 := ⟨RJ2, TJ2, 3, ⟨"java/util/List", "addAll", "(Ljava/util/Collection;)Z"⟩, rfl, lw_app (List.forall_mem_cons.mpr ⟨q919, List.forall_mem_cons.mpr ⟨q922, List.forall_mem_cons.mpr ⟨q924, List.forall_mem_cons.mpr ⟨q53, fun _ h => absurd h List.not_mem_nil⟩⟩⟩⟩) (lw_meth q926), ⟨q921, q920, q925, q923, q179⟩, by decide +kernel, by decide +kernel, by decide +kernel⟩
theorem sI_X0_329 : SiteI "ThirdEbb" 329 mX9_init 6 := ⟨rfl, lw_meth q959, q78, q957, q958, rfl, by decide +kernel, by decide +kernel, by decide +kernel⟩
theorem sI_X0_332 : SiteI "ThirdEbb" 332 mX10_init 5 := ⟨rfl, lw_meth q982, q79, q980, q981, rfl, by decide +kernel, by decide +kernel, by decide +kernel⟩
theorem sI_X0_335 : SiteI "ThirdEbb" 335 mX12_init 6 := ⟨rfl, lw_meth q1002, q81, q1000, q1001, rfl, by decide +kernel, by decide +kernel, by decide +kernel⟩
theorem sV_X0_337_3 : SiteV "ThirdEbb" 337 3 mX6_said 0 := ⟨RX6, TX6, 7, rfl, lw_V q1031 q1032 q1033 q75 q1059, rfl, by decide +kernel, by decide +kernel, by decide +kernel⟩
theorem sU_X0_337_4 : SiteU "ThirdEbb" 337 4 mX7_said 0 := ⟨RX7, TX7, 8, "ThirdEbb$Soft", ⟨"ThirdEbb$Soft", "said", "()I"⟩, rfl, fun R s args rm mc ms ht hrc hrs hR => va_cwO 0 ht (lw_app (List.forall_mem_cons.mpr ⟨q1031, List.forall_mem_cons.mpr ⟨q1034, List.forall_mem_cons.mpr ⟨q1032, List.forall_mem_cons.mpr ⟨q1035, List.forall_mem_cons.mpr ⟨q1036, List.forall_mem_cons.mpr ⟨q76, fun _ h => absurd h List.not_mem_nil⟩⟩⟩⟩⟩⟩) (lw_meth q1037)) rfl hrc hrs q1059 ⟨by decide +kernel, by decide +kernel, by decide +kernel⟩ hR⟩
theorem sU_X0_337_5 : SiteU "ThirdEbb" 337 5 mX8_said 0 := ⟨RX8, TX8, 9, "ThirdEbb$Soft", ⟨"ThirdEbb$Soft", "said", "()I"⟩, rfl, fun R s args rm mc ms ht hrc hrs hR => va_cwO 0 ht (lw_app (List.forall_mem_cons.mpr ⟨q1031, List.forall_mem_cons.mpr ⟨q1034, List.forall_mem_cons.mpr ⟨q1032, List.forall_mem_cons.mpr ⟨q1046, List.forall_mem_cons.mpr ⟨q1047, List.forall_mem_cons.mpr ⟨q77, fun _ h => absurd h List.not_mem_nil⟩⟩⟩⟩⟩⟩) (lw_meth q1048)) rfl hrc hrs q1059 ⟨by decide +kernel, by decide +kernel, by decide +kernel⟩ hR⟩
theorem sF_X0_342_5 : SiteF "ThirdEbb" 342 5 mX8_staked 0 := ⟨RX8, TX8, 9, ⟨"ThirdEbb$Staked", "staked", "()I"⟩, rfl, lw_app (List.forall_mem_cons.mpr ⟨q1067, List.forall_mem_cons.mpr ⟨q1101, List.forall_mem_cons.mpr ⟨q1103, List.forall_mem_cons.mpr ⟨q77, fun _ h => absurd h List.not_mem_nil⟩⟩⟩⟩) (lw_meth q1105), ⟨q1069, q1068, q1104, q1102, q1082⟩, by decide +kernel, by decide +kernel, by decide +kernel⟩
theorem sI_X0_347 : SiteI "ThirdEbb" 347 mX13_init 3 := ⟨rfl, lw_meth q1115, q82, q1113, q1114, rfl, by decide +kernel, by decide +kernel, by decide +kernel⟩
theorem sS_X1_96 : SiteS "ThirdEbbModel" 96 mX1_isSheet 1 := ⟨lw_S q1247 q1248 q54 q1249, by decide +kernel, by decide +kernel, by decide +kernel⟩
theorem sS_X1_82 : SiteS "ThirdEbbModel" 82 mX1_within 3 := ⟨lw_S q1250 q1251 q54 q1252, by decide +kernel, by decide +kernel, by decide +kernel⟩
theorem sS_X1_100 : SiteS "ThirdEbbModel" 100 mX1_isSort 1 := ⟨lw_S q1253 q1254 q54 q1255, by decide +kernel, by decide +kernel, by decide +kernel⟩
theorem sV_X1_103_1 : SiteV "ThirdEbbModel" 103 1 mX1_against 4 := ⟨RX1, TX1, 31, rfl, lw_V q1256 q1258 qs24 q54 q1259, rfl, by decide +kernel, by decide +kernel, by decide +kernel⟩
theorem sV_X1_107_1 : SiteV "ThirdEbbModel" 107 1 mX1_fails 1 := ⟨RX1, TX1, 31, rfl, lw_V q1260 q1262 qs25 q54 q1263, rfl, by decide +kernel, by decide +kernel, by decide +kernel⟩
theorem sV_X1_111_1 : SiteV "ThirdEbbModel" 111 1 mX1_readSea 1 := ⟨RX1, TX1, 31, rfl, lw_V q1264 q1266 qs26 q54 q1267, rfl, by decide +kernel, by decide +kernel, by decide +kernel⟩
theorem sV_X1_126_1 : SiteV "ThirdEbbModel" 126 1 mX1_isCode 2 := ⟨RX1, TX1, 31, rfl, lw_V q1268 q1270 qs27 q54 q1271, rfl, by decide +kernel, by decide +kernel, by decide +kernel⟩
theorem sV_X1_92_1 : SiteV "ThirdEbbModel" 92 1 mX1_digitAt 2 := ⟨RX1, TX1, 31, rfl, lw_V q1272 q1274 qs28 q54 q1275, rfl, by decide +kernel, by decide +kernel, by decide +kernel⟩
theorem sV_X1_130_1 : SiteV "ThirdEbbModel" 130 1 mX1_readMoon 1 := ⟨RX1, TX1, 31, rfl, lw_V q1276 q1278 qs29 q54 q1279, rfl, by decide +kernel, by decide +kernel, by decide +kernel⟩
theorem sV_X1_133_1 : SiteV "ThirdEbbModel" 133 1 mX1_twoDigits 3 := ⟨RX1, TX1, 31, rfl, lw_V q1280 q1282 qs30 q54 q1283, rfl, by decide +kernel, by decide +kernel, by decide +kernel⟩
theorem sS_X1_137 : SiteS "ThirdEbbModel" 137 mX1_isHour 1 := ⟨lw_S q1292 q1293 q54 q1294, by decide +kernel, by decide +kernel, by decide +kernel⟩
theorem sV_X1_140_1 : SiteV "ThirdEbbModel" 140 1 mX1_isSea 0 := ⟨RX1, TX1, 31, rfl, lw_V q1299 q1301 qs31 q54 q1302, rfl, by decide +kernel, by decide +kernel, by decide +kernel⟩
theorem sV_X1_144_1 : SiteV "ThirdEbbModel" 144 1 mX1_levelAt 1 := ⟨RX1, TX1, 31, rfl, lw_V q1303 q1305 qs32 q54 q1306, rfl, by decide +kernel, by decide +kernel, by decide +kernel⟩
theorem sV_X1_147_1 : SiteV "ThirdEbbModel" 147 1 mX1_comesAgain 2 := ⟨RX1, TX1, 31, rfl, lw_V q1311 q1313 qs33 q54 q1314, rfl, by decide +kernel, by decide +kernel, by decide +kernel⟩
theorem sV_X1_150_1 : SiteV "ThirdEbbModel" 150 1 mX1_isIsland 1 := ⟨RX1, TX1, 31, rfl, lw_V q1319 q1321 qs34 q54 q1322, rfl, by decide +kernel, by decide +kernel, by decide +kernel⟩
theorem sV_X1_153_1 : SiteV "ThirdEbbModel" 153 1 mX1_isRoad 1 := ⟨RX1, TX1, 31, rfl, lw_V q1327 q1329 qs35 q54 q1330, rfl, by decide +kernel, by decide +kernel, by decide +kernel⟩
theorem sV_X1_156_1 : SiteV "ThirdEbbModel" 156 1 mX1_heightAt 2 := ⟨RX1, TX1, 31, rfl, lw_V q1339 q1341 qs36 q54 q1342, rfl, by decide +kernel, by decide +kernel, by decide +kernel⟩
theorem sV_X1_159_1 : SiteV "ThirdEbbModel" 159 1 mX1_isDry 2 := ⟨RX1, TX1, 31, rfl, lw_V q1347 q1349 qs37 q54 q1350, rfl, by decide +kernel, by decide +kernel, by decide +kernel⟩
theorem sS_X1_162 : SiteS "ThirdEbbModel" 162 mX1_share 3 := ⟨lw_S q1356 q1357 q54 q1358, by decide +kernel, by decide +kernel, by decide +kernel⟩
theorem sV_X1_166_1 : SiteV "ThirdEbbModel" 166 1 mX1_layRoad 2 := ⟨RX1, TX1, 31, rfl, lw_V q1363 q1365 qs38 q54 q1366, rfl, by decide +kernel, by decide +kernel, by decide +kernel⟩
theorem sV_X1_174_1 : SiteV "ThirdEbbModel" 174 1 mX1_layRoads 1 := ⟨RX1, TX1, 31, rfl, lw_V q1371 q1373 qs39 q54 q1374, rfl, by decide +kernel, by decide +kernel, by decide +kernel⟩
theorem sV_X1_178_1 : SiteV "ThirdEbbModel" 178 1 mX1_findThere 2 := ⟨RX1, TX1, 31, rfl, lw_V q1375 q1377 qs40 q54 q1378, rfl, by decide +kernel, by decide +kernel, by decide +kernel⟩
theorem sV_X1_170_1 : SiteV "ThirdEbbModel" 170 1 mX1_cross 3 := ⟨RX1, TX1, 31, rfl, lw_V q1379 q1381 qs41 q54 q1382, rfl, by decide +kernel, by decide +kernel, by decide +kernel⟩
theorem sS_X1_182 : SiteS "ThirdEbbModel" 182 mX1_toldHour 1 := ⟨lw_S q1383 q1384 q54 q1385, by decide +kernel, by decide +kernel, by decide +kernel⟩
theorem sV_X1_191_1 : SiteV "ThirdEbbModel" 191 1 mX1_findWay 2 := ⟨RX1, TX1, 31, rfl, lw_V q1390 q1392 qs42 q54 q1393, rfl, by decide +kernel, by decide +kernel, by decide +kernel⟩
theorem sV_X1_188_1 : SiteV "ThirdEbbModel" 188 1 mX1_roadTo 1 := ⟨RX1, TX1, 31, rfl, lw_V q1394 q1396 qs43 q54 q1397, rfl, by decide +kernel, by decide +kernel, by decide +kernel⟩
theorem sV_X1_197_1 : SiteV "ThirdEbbModel" 197 1 mX1_overBy 2 := ⟨RX1, TX1, 31, rfl, lw_V q1406 q1408 qs44 q54 q1409, rfl, by decide +kernel, by decide +kernel, by decide +kernel⟩
theorem sV_X1_200_1 : SiteV "ThirdEbbModel" 200 1 mX1_nextOrder 1 := ⟨RX1, TX1, 31, rfl, lw_V q1410 q1412 qs45 q54 q1413, rfl, by decide +kernel, by decide +kernel, by decide +kernel⟩
theorem sV_X1_194_1 : SiteV "ThirdEbbModel" 194 1 mX1_exchange 2 := ⟨RX1, TX1, 31, rfl, lw_V q1414 q1416 qs46 q54 q1417, rfl, by decide +kernel, by decide +kernel, by decide +kernel⟩
theorem sS_X1_203 : SiteS "ThirdEbbModel" 203 mX1_isMonthOf 4 := ⟨lw_S q1434 q1435 q54 q1436, by decide +kernel, by decide +kernel, by decide +kernel⟩
theorem sV_X1_207_1 : SiteV "ThirdEbbModel" 207 1 mX1_lost 1 := ⟨RX1, TX1, 31, rfl, lw_V q1453 q1455 qs47 q54 q1456, rfl, by decide +kernel, by decide +kernel, by decide +kernel⟩
theorem sV_X1_214_1 : SiteV "ThirdEbbModel" 214 1 mX1_begins 1 := ⟨RX1, TX1, 31, rfl, lw_V q1465 q1467 qs48 q54 q1468, rfl, by decide +kernel, by decide +kernel, by decide +kernel⟩
theorem sI_X10_7 : SiteI "ThirdEbb$Booking" 7 mX3_init 5 := ⟨rfl, lw_meth q760, q56, q983, q759, rfl, by decide +kernel, by decide +kernel, by decide +kernel⟩
theorem sF_X14_1_3 : SiteF "ThirdEbb$Staked" 1 3 mX6_tracedBy 1 := ⟨RX6, TX6, 7, ⟨"ThirdEbb$Staked", "tracedBy", "(I)I"⟩, rfl, lw_app (List.forall_mem_cons.mpr ⟨q1076, List.forall_mem_cons.mpr ⟨q1086, List.forall_mem_cons.mpr ⟨q1043, List.forall_mem_cons.mpr ⟨q75, fun _ h => absurd h List.not_mem_nil⟩⟩⟩⟩) (lw_meth q1044), ⟨q1078, q1077, q1081, q1087, q1085⟩, by decide +kernel, by decide +kernel, by decide +kernel⟩
theorem sF_X14_1_4 : SiteF "ThirdEbb$Staked" 1 4 mX6_tracedBy 1 := ⟨RX7, TX7, 8, ⟨"ThirdEbb$Staked", "tracedBy", "(I)I"⟩, rfl, lw_app (List.forall_mem_cons.mpr ⟨q1076, List.forall_mem_cons.mpr ⟨q1079, List.forall_mem_cons.mpr ⟨q1043, List.forall_mem_cons.mpr ⟨q75, fun _ h => absurd h List.not_mem_nil⟩⟩⟩⟩) (lw_meth q1044), ⟨q1078, q1077, q1081, q1080, q1070⟩, by decide +kernel, by decide +kernel, by decide +kernel⟩
theorem sF_X14_1_5 : SiteF "ThirdEbb$Staked" 1 5 mX6_tracedBy 1 := ⟨RX8, TX8, 9, ⟨"ThirdEbb$Staked", "tracedBy", "(I)I"⟩, rfl, lw_app (List.forall_mem_cons.mpr ⟨q1076, List.forall_mem_cons.mpr ⟨q1083, List.forall_mem_cons.mpr ⟨q1043, List.forall_mem_cons.mpr ⟨q75, fun _ h => absurd h List.not_mem_nil⟩⟩⟩⟩) (lw_meth q1044), ⟨q1078, q1077, q1081, q1084, q1082⟩, by decide +kernel, by decide +kernel, by decide +kernel⟩
theorem sF_X14_7_3 : SiteF "ThirdEbb$Staked" 7 3 mX6_number 0 := ⟨RX6, TX6, 7, ⟨"ThirdEbb$Staked", "number", "()I"⟩, rfl, lw_app (List.forall_mem_cons.mpr ⟨q1089, List.forall_mem_cons.mpr ⟨q1099, List.forall_mem_cons.mpr ⟨q1094, List.forall_mem_cons.mpr ⟨q75, fun _ h => absurd h List.not_mem_nil⟩⟩⟩⟩) (lw_meth q1096), ⟨q1091, q1090, q1095, q1100, q1085⟩, by decide +kernel, by decide +kernel, by decide +kernel⟩
theorem sF_X14_7_4 : SiteF "ThirdEbb$Staked" 7 4 mX6_number 0 := ⟨RX7, TX7, 8, ⟨"ThirdEbb$Staked", "number", "()I"⟩, rfl, lw_app (List.forall_mem_cons.mpr ⟨q1089, List.forall_mem_cons.mpr ⟨q1092, List.forall_mem_cons.mpr ⟨q1094, List.forall_mem_cons.mpr ⟨q75, fun _ h => absurd h List.not_mem_nil⟩⟩⟩⟩) (lw_meth q1096), ⟨q1091, q1090, q1095, q1093, q1070⟩, by decide +kernel, by decide +kernel, by decide +kernel⟩
theorem sF_X14_7_5 : SiteF "ThirdEbb$Staked" 7 5 mX6_number 0 := ⟨RX8, TX8, 9, ⟨"ThirdEbb$Staked", "number", "()I"⟩, rfl, lw_app (List.forall_mem_cons.mpr ⟨q1089, List.forall_mem_cons.mpr ⟨q1097, List.forall_mem_cons.mpr ⟨q1094, List.forall_mem_cons.mpr ⟨q75, fun _ h => absurd h List.not_mem_nil⟩⟩⟩⟩) (lw_meth q1096), ⟨q1091, q1090, q1095, q1098, q1082⟩, by decide +kernel, by decide +kernel, by decide +kernel⟩
theorem sI_X4_7 : SiteI "ThirdEbb$Filling" 7 mX3_init 5 := ⟨rfl, lw_meth q760, q56, q758, q759, rfl, by decide +kernel, by decide +kernel, by decide +kernel⟩
theorem sV_X5_19_2 : SiteV "ThirdEbb$Moon" 19 2 mX5_phase 1 := ⟨RX5, TX5, 3, rfl, lw_V q232 q217 q218 q71 q219, rfl, by decide +kernel, by decide +kernel, by decide +kernel⟩
theorem sS_X5_23 : SiteS "ThirdEbb$Moon" 23 mJ13_min 2 := ⟨lw_S q233 q234 q68 q235, by decide +kernel, by decide +kernel, by decide +kernel⟩
theorem sV_X6_31_3 : SiteV "ThirdEbb$Soft" 31 3 mX6_kind 0 := ⟨RX6, TX6, 7, rfl, lw_V q414 q415 q416 q75 q424, rfl, by decide +kernel, by decide +kernel, by decide +kernel⟩
theorem sU_X6_31_4 : SiteU "ThirdEbb$Soft" 31 4 mX7_kind 0 := ⟨RX7, TX7, 8, "ThirdEbb$Soft", ⟨"ThirdEbb$Soft", "kind", "()I"⟩, rfl, fun R s args rm mc ms ht hrc hrs hR => va_cwO 0 ht (lw_app (List.forall_mem_cons.mpr ⟨q414, List.forall_mem_cons.mpr ⟨q417, List.forall_mem_cons.mpr ⟨q415, List.forall_mem_cons.mpr ⟨q418, List.forall_mem_cons.mpr ⟨q419, List.forall_mem_cons.mpr ⟨q76, fun _ h => absurd h List.not_mem_nil⟩⟩⟩⟩⟩⟩) (lw_meth q420)) rfl hrc hrs q424 ⟨by decide +kernel, by decide +kernel, by decide +kernel⟩ hR⟩
theorem sU_X6_31_5 : SiteU "ThirdEbb$Soft" 31 5 mX8_kind 0 := ⟨RX8, TX8, 9, "ThirdEbb$Soft", ⟨"ThirdEbb$Soft", "kind", "()I"⟩, rfl, fun R s args rm mc ms ht hrc hrs hR => va_cwO 0 ht (lw_app (List.forall_mem_cons.mpr ⟨q414, List.forall_mem_cons.mpr ⟨q417, List.forall_mem_cons.mpr ⟨q415, List.forall_mem_cons.mpr ⟨q421, List.forall_mem_cons.mpr ⟨q422, List.forall_mem_cons.mpr ⟨q77, fun _ h => absurd h List.not_mem_nil⟩⟩⟩⟩⟩⟩) (lw_meth q423)) rfl hrc hrs q424 ⟨by decide +kernel, by decide +kernel, by decide +kernel⟩ hR⟩
theorem sV_X6_41_3 : SiteV "ThirdEbb$Soft" 41 3 mX6_tracedBy 1 := ⟨RX6, TX6, 7, rfl, lw_V q1060 q1043 q1495 q75 q1044, rfl, by decide +kernel, by decide +kernel, by decide +kernel⟩
theorem sU_X6_41_4 : SiteU "ThirdEbb$Soft" 41 4 mX6_tracedBy 1 := ⟨RX7, TX7, 8, "ThirdEbb$Soft", ⟨"ThirdEbb$Soft", "tracedBy", "(I)I"⟩, rfl, fun R s args rm mc ms ht hrc hrs hR => va_cwU 1 ht (lw_app (List.forall_mem_cons.mpr ⟨q1060, List.forall_mem_cons.mpr ⟨q1492, List.forall_mem_cons.mpr ⟨q1493, List.forall_mem_cons.mpr ⟨q1043, List.forall_mem_cons.mpr ⟨q75, fun _ h => absurd h List.not_mem_nil⟩⟩⟩⟩⟩) (lw_meth q1044)) rfl hrc hrs rfl ⟨by decide +kernel, by decide +kernel, by decide +kernel⟩ hR⟩
theorem sU_X6_41_5 : SiteU "ThirdEbb$Soft" 41 5 mX6_tracedBy 1 := ⟨RX8, TX8, 9, "ThirdEbb$Soft", ⟨"ThirdEbb$Soft", "tracedBy", "(I)I"⟩, rfl, fun R s args rm mc ms ht hrc hrs hR => va_cwU 1 ht (lw_app (List.forall_mem_cons.mpr ⟨q1060, List.forall_mem_cons.mpr ⟨q1492, List.forall_mem_cons.mpr ⟨q1494, List.forall_mem_cons.mpr ⟨q1043, List.forall_mem_cons.mpr ⟨q75, fun _ h => absurd h List.not_mem_nil⟩⟩⟩⟩⟩) (lw_meth q1044)) rfl hrc hrs rfl ⟨by decide +kernel, by decide +kernel, by decide +kernel⟩ hR⟩
theorem sI_X7_7 : SiteI "ThirdEbb$Bridged" 7 mX6_init 6 := ⟨rfl, lw_meth q262, q75, q300, q261, rfl, by decide +kernel, by decide +kernel, by decide +kernel⟩
theorem sP_X7_13 : SiteP "ThirdEbb$Bridged" 13 mX6_heightIn 1 := ⟨lw_app (List.forall_mem_cons.mpr ⟨q441, List.forall_mem_cons.mpr ⟨q437, List.forall_mem_cons.mpr ⟨q311, List.forall_mem_cons.mpr ⟨q435, List.forall_mem_cons.mpr ⟨q75, fun _ h => absurd h List.not_mem_nil⟩⟩⟩⟩⟩) (lw_meth q447), by decide +kernel, by decide +kernel⟩
theorem sU_X7_21_4 : SiteU "ThirdEbb$Bridged" 21 4 mX6_tracedBy 1 := ⟨RX7, TX7, 8, "ThirdEbb$Soft", ⟨"ThirdEbb$Bridged", "tracedBy", "(I)I"⟩, rfl, fun R s args rm mc ms ht hrc hrs hR => va_cwU 1 ht (lw_app (List.forall_mem_cons.mpr ⟨q1038, List.forall_mem_cons.mpr ⟨q1039, List.forall_mem_cons.mpr ⟨q1041, List.forall_mem_cons.mpr ⟨q1043, List.forall_mem_cons.mpr ⟨q75, fun _ h => absurd h List.not_mem_nil⟩⟩⟩⟩⟩) (lw_meth q1044)) rfl hrc hrs rfl ⟨by decide +kernel, by decide +kernel, by decide +kernel⟩ hR⟩
theorem sU_X7_21_5 : SiteU "ThirdEbb$Bridged" 21 5 mX6_tracedBy 1 := ⟨RX8, TX8, 9, "ThirdEbb$Soft", ⟨"ThirdEbb$Bridged", "tracedBy", "(I)I"⟩, rfl, fun R s args rm mc ms ht hrc hrs hR => va_cwU 1 ht (lw_app (List.forall_mem_cons.mpr ⟨q1038, List.forall_mem_cons.mpr ⟨q1039, List.forall_mem_cons.mpr ⟨q1042, List.forall_mem_cons.mpr ⟨q1043, List.forall_mem_cons.mpr ⟨q75, fun _ h => absurd h List.not_mem_nil⟩⟩⟩⟩⟩) (lw_meth q1044)) rfl hrc hrs rfl ⟨by decide +kernel, by decide +kernel, by decide +kernel⟩ hR⟩
theorem sP_X7_24 : SiteP "ThirdEbb$Bridged" 24 mX6_said 0 := ⟨lw_app (List.forall_mem_cons.mpr ⟨q1045, List.forall_mem_cons.mpr ⟨q1034, List.forall_mem_cons.mpr ⟨q311, List.forall_mem_cons.mpr ⟨q1032, List.forall_mem_cons.mpr ⟨q75, fun _ h => absurd h List.not_mem_nil⟩⟩⟩⟩⟩) (lw_meth q1059), by decide +kernel, by decide +kernel⟩
theorem sI_X8_7 : SiteI "ThirdEbb$Shifting" 7 mX7_init 6 := ⟨rfl, lw_meth q299, q76, q317, q298, rfl, by decide +kernel, by decide +kernel, by decide +kernel⟩
theorem sP_X8_13 : SiteP "ThirdEbb$Shifting" 13 mX7_heightIn 1 := ⟨lw_app (List.forall_mem_cons.mpr ⟨q445, List.forall_mem_cons.mpr ⟨q1489, List.forall_mem_cons.mpr ⟨q329, List.forall_mem_cons.mpr ⟨q439, List.forall_mem_cons.mpr ⟨q76, fun _ h => absurd h List.not_mem_nil⟩⟩⟩⟩⟩) (lw_meth q440), by decide +kernel, by decide +kernel⟩
theorem sS_X8_17 : SiteS "ThirdEbb$Shifting" 17 mJ13_max 2 := ⟨lw_S q446 q355 q68 q356, by decide +kernel, by decide +kernel, by decide +kernel⟩
theorem sU_X8_23_5 : SiteU "ThirdEbb$Shifting" 23 5 mX6_tracedBy 1 := ⟨RX8, TX8, 9, "ThirdEbb$Soft", ⟨"ThirdEbb$Shifting", "tracedBy", "(I)I"⟩, rfl, fun R s args rm mc ms ht hrc hrs hR => va_cwU 1 ht (lw_app (List.forall_mem_cons.mpr ⟨q1049, List.forall_mem_cons.mpr ⟨q1050, List.forall_mem_cons.mpr ⟨q1051, List.forall_mem_cons.mpr ⟨q1043, List.forall_mem_cons.mpr ⟨q75, fun _ h => absurd h List.not_mem_nil⟩⟩⟩⟩⟩) (lw_meth q1044)) rfl hrc hrs rfl ⟨by decide +kernel, by decide +kernel, by decide +kernel⟩ hR⟩
theorem sP_X8_26 : SiteP "ThirdEbb$Shifting" 26 mX7_said 0 := ⟨lw_app (List.forall_mem_cons.mpr ⟨q1052, List.forall_mem_cons.mpr ⟨q1491, List.forall_mem_cons.mpr ⟨q329, List.forall_mem_cons.mpr ⟨q1036, List.forall_mem_cons.mpr ⟨q76, fun _ h => absurd h List.not_mem_nil⟩⟩⟩⟩⟩) (lw_meth q1037), by decide +kernel, by decide +kernel⟩
theorem sU_X8_30_5 : SiteU "ThirdEbb$Shifting" 30 5 mX7_plainly 0 := ⟨RX8, TX8, 9, "ThirdEbb$Bridged", ⟨"ThirdEbb$Shifting", "plainly", "()I"⟩, rfl, fun R s args rm mc ms ht hrc hrs hR => va_cwU 0 ht (lw_app (List.forall_mem_cons.mpr ⟨q1053, List.forall_mem_cons.mpr ⟨q1054, List.forall_mem_cons.mpr ⟨q1056, List.forall_mem_cons.mpr ⟨q1057, List.forall_mem_cons.mpr ⟨q76, fun _ h => absurd h List.not_mem_nil⟩⟩⟩⟩⟩) (lw_meth q1058)) rfl hrc hrs rfl ⟨by decide +kernel, by decide +kernel, by decide +kernel⟩ hR⟩
theorem sI_X9_7 : SiteI "ThirdEbb$Checking" 7 mX3_init 5 := ⟨rfl, lw_meth q760, q56, q960, q759, rfl, by decide +kernel, by decide +kernel, by decide +kernel⟩
theorem sI_L_9 : SiteI "ThirdEbbLaw" 9 mX0_init 0 := ⟨rfl, lw_meth q87, q50, q85, q86, rfl, by decide +kernel, by decide +kernel, by decide +kernel⟩
theorem sV_L_18_0 : SiteV "ThirdEbbLaw" 18 0 mX0_ofMoon 2 := ⟨RX0, TX0, 14, rfl, lw_V q167 q168 q169 q50 q170, rfl, by decide +kernel, by decide +kernel, by decide +kernel⟩
theorem sV_L_23_0 : SiteV "ThirdEbbLaw" 23 0 mX0_phase 2 := ⟨RX0, TX0, 14, rfl, lw_V q208 q209 q210 q50 q211, rfl, by decide +kernel, by decide +kernel, by decide +kernel⟩
theorem sV_L_27_0 : SiteV "ThirdEbbLaw" 27 0 mX0_level 1 := ⟨RX0, TX0, 14, rfl, lw_V q220 q221 q222 q50 q223, rfl, by decide +kernel, by decide +kernel, by decide +kernel⟩
theorem sV_L_32_0 : SiteV "ThirdEbbLaw" 32 0 mX0_again 0 := ⟨RX0, TX0, 14, rfl, lw_V q236 q237 q238 q50 q239, rfl, by decide +kernel, by decide +kernel, by decide +kernel⟩
theorem sV_L_37_0 : SiteV "ThirdEbbLaw" 37 0 mX0_road 5 := ⟨RX0, TX0, 14, rfl, lw_V q247 q248 q249 q50 q250, rfl, by decide +kernel, by decide +kernel, by decide +kernel⟩
theorem sV_L_42_0 : SiteV "ThirdEbbLaw" 42 0 mX0_ofRoad 2 := ⟨RX0, TX0, 14, rfl, lw_V q399 q400 q401 q50 q402, rfl, by decide +kernel, by decide +kernel, by decide +kernel⟩
theorem sV_L_46_0 : SiteV "ThirdEbbLaw" 46 0 mX0_mend 1 := ⟨RX0, TX0, 14, rfl, lw_V q425 q426 q427 q50 q428, rfl, by decide +kernel, by decide +kernel, by decide +kernel⟩
theorem sV_L_50_0 : SiteV "ThirdEbbLaw" 50 0 mX0_height 2 := ⟨RX0, TX0, 14, rfl, lw_V q430 q431 q432 q50 q433, rfl, by decide +kernel, by decide +kernel, by decide +kernel⟩
theorem sV_L_54_0 : SiteV "ThirdEbbLaw" 54 0 mX0_dry 2 := ⟨RX0, TX0, 14, rfl, lw_V q448 q449 q450 q50 q451, rfl, by decide +kernel, by decide +kernel, by decide +kernel⟩
theorem sV_L_58_0 : SiteV "ThirdEbbLaw" 58 0 mX0_dryHours 4 := ⟨RX0, TX0, 14, rfl, lw_V q456 q457 q458 q50 q459, rfl, by decide +kernel, by decide +kernel, by decide +kernel⟩
theorem sV_L_63_0 : SiteV "ThirdEbbLaw" 63 0 mX0_next 3 := ⟨RX0, TX0, 14, rfl, lw_V q462 q463 q464 q50 q465, rfl, by decide +kernel, by decide +kernel, by decide +kernel⟩
theorem sV_L_68_0 : SiteV "ThirdEbbLaw" 68 0 mX0_soonest 4 := ⟨RX0, TX0, 14, rfl, lw_V q481 q482 q483 q50 q484, rfl, by decide +kernel, by decide +kernel, by decide +kernel⟩
theorem sV_L_73_0 : SiteV "ThirdEbbLaw" 73 0 mX0_way 5 := ⟨RX0, TX0, 14, rfl, lw_V q514 q515 q516 q50 q517, rfl, by decide +kernel, by decide +kernel, by decide +kernel⟩
theorem sV_L_78_0 : SiteV "ThirdEbbLaw" 78 0 mX0_latest 4 := ⟨RX0, TX0, 14, rfl, lw_V q522 q523 q524 q50 q525, rfl, by decide +kernel, by decide +kernel, by decide +kernel⟩
theorem sV_L_82_0 : SiteV "ThirdEbbLaw" 82 0 mX0_round 3 := ⟨RX0, TX0, 14, rfl, lw_V q526 q527 q528 q50 q529, rfl, by decide +kernel, by decide +kernel, by decide +kernel⟩
theorem sV_L_87_0 : SiteV "ThirdEbbLaw" 87 0 mX0_meeting 3 := ⟨RX0, TX0, 14, rfl, lw_V q536 q537 q538 q50 q539, rfl, by decide +kernel, by decide +kernel, by decide +kernel⟩
theorem sV_L_91_0 : SiteV "ThirdEbbLaw" 91 0 mX0_saves 4 := ⟨RX0, TX0, 14, rfl, lw_V q541 q542 q543 q50 q544, rfl, by decide +kernel, by decide +kernel, by decide +kernel⟩
theorem sV_L_107_0 : SiteV "ThirdEbbLaw" 107 0 mX0_lose 1 := ⟨RX0, TX0, 14, rfl, lw_V q662 q663 q664 q50 q665, rfl, by decide +kernel, by decide +kernel, by decide +kernel⟩
theorem sV_L_13_0 : SiteV "ThirdEbbLaw" 13 0 mX0_sea 4 := ⟨RX0, TX0, 14, rfl, lw_V q749 q750 q751 q50 q752, rfl, by decide +kernel, by decide +kernel, by decide +kernel⟩
theorem sV_L_95_0 : SiteV "ThirdEbbLaw" 95 0 mX0_table 5 := ⟨RX0, TX0, 14, rfl, lw_V q951 q952 q953 q50 q954, rfl, by decide +kernel, by decide +kernel, by decide +kernel⟩
theorem sV_L_99_0 : SiteV "ThirdEbbLaw" 99 0 mX0_book 4 := ⟨RX0, TX0, 14, rfl, lw_V q974 q975 q976 q50 q977, rfl, by decide +kernel, by decide +kernel, by decide +kernel⟩
theorem sV_L_120_0 : SiteV "ThirdEbbLaw" 120 0 mX0_copy 5 := ⟨RX0, TX0, 14, rfl, lw_V q994 q995 q996 q50 q997, rfl, by decide +kernel, by decide +kernel, by decide +kernel⟩
theorem sV_L_124_0 : SiteV "ThirdEbbLaw" 124 0 mX0_tell 1 := ⟨RX0, TX0, 14, rfl, lw_V q1027 q1028 q1029 q50 q1030, rfl, by decide +kernel, by decide +kernel, by decide +kernel⟩
theorem sV_L_128_0 : SiteV "ThirdEbbLaw" 128 0 mX0_stake 1 := ⟨RX0, TX0, 14, rfl, lw_V q1061 q1062 q1063 q50 q1064, rfl, by decide +kernel, by decide +kernel, by decide +kernel⟩
theorem sV_L_132_0 : SiteV "ThirdEbbLaw" 132 0 mX0_as 2 := ⟨RX0, TX0, 14, rfl, lw_V q1107 q1108 q1109 q50 q1110, rfl, by decide +kernel, by decide +kernel, by decide +kernel⟩
theorem sV_L_136_0 : SiteV "ThirdEbbLaw" 136 0 mX0_trace 0 := ⟨RX0, TX0, 14, rfl, lw_V q1131 q1132 q1133 q50 q1134, rfl, by decide +kernel, by decide +kernel, by decide +kernel⟩
theorem sV_L_140_0 : SiteV "ThirdEbbLaw" 140 0 mX0_fault 0 := ⟨RX0, TX0, 14, rfl, lw_V q1135 q1136 q1137 q50 q1138, rfl, by decide +kernel, by decide +kernel, by decide +kernel⟩
theorem sV_L_144_0 : SiteV "ThirdEbbLaw" 144 0 mX0_many 1 := ⟨RX0, TX0, 14, rfl, lw_V q1139 q1140 q1141 q50 q1142, rfl, by decide +kernel, by decide +kernel, by decide +kernel⟩
theorem sI_L_12 : SiteI "ThirdEbbLaw" 12 mX1_init 0 := ⟨rfl, lw_meth q1147, q54, q1145, q1146, rfl, by decide +kernel, by decide +kernel, by decide +kernel⟩
theorem sV_L_17_1 : SiteV "ThirdEbbLaw" 17 1 mX1_sea 4 := ⟨RX1, TX1, 31, rfl, lw_V q1243 q1244 q1245 q54 q1246, rfl, by decide +kernel, by decide +kernel, by decide +kernel⟩
theorem sV_L_22_1 : SiteV "ThirdEbbLaw" 22 1 mX1_ofMoon 2 := ⟨RX1, TX1, 31, rfl, lw_V q1284 q1285 q1286 q54 q1287, rfl, by decide +kernel, by decide +kernel, by decide +kernel⟩
theorem sV_L_26_1 : SiteV "ThirdEbbLaw" 26 1 mX1_phase 2 := ⟨RX1, TX1, 31, rfl, lw_V q1288 q1289 q1290 q54 q1291, rfl, by decide +kernel, by decide +kernel, by decide +kernel⟩
theorem sV_L_31_1 : SiteV "ThirdEbbLaw" 31 1 mX1_level 1 := ⟨RX1, TX1, 31, rfl, lw_V q1295 q1296 q1297 q54 q1298, rfl, by decide +kernel, by decide +kernel, by decide +kernel⟩
theorem sV_L_36_1 : SiteV "ThirdEbbLaw" 36 1 mX1_again 0 := ⟨RX1, TX1, 31, rfl, lw_V q1307 q1308 q1309 q54 q1310, rfl, by decide +kernel, by decide +kernel, by decide +kernel⟩
theorem sV_L_41_1 : SiteV "ThirdEbbLaw" 41 1 mX1_road 5 := ⟨RX1, TX1, 31, rfl, lw_V q1315 q1316 q1317 q54 q1318, rfl, by decide +kernel, by decide +kernel, by decide +kernel⟩
theorem sV_L_45_1 : SiteV "ThirdEbbLaw" 45 1 mX1_ofRoad 2 := ⟨RX1, TX1, 31, rfl, lw_V q1323 q1324 q1325 q54 q1326, rfl, by decide +kernel, by decide +kernel, by decide +kernel⟩
theorem sV_L_49_1 : SiteV "ThirdEbbLaw" 49 1 mX1_mend 1 := ⟨RX1, TX1, 31, rfl, lw_V q1331 q1332 q1333 q54 q1334, rfl, by decide +kernel, by decide +kernel, by decide +kernel⟩
theorem sV_L_53_1 : SiteV "ThirdEbbLaw" 53 1 mX1_height 2 := ⟨RX1, TX1, 31, rfl, lw_V q1335 q1336 q1337 q54 q1338, rfl, by decide +kernel, by decide +kernel, by decide +kernel⟩
theorem sV_L_57_1 : SiteV "ThirdEbbLaw" 57 1 mX1_dry 2 := ⟨RX1, TX1, 31, rfl, lw_V q1343 q1344 q1345 q54 q1346, rfl, by decide +kernel, by decide +kernel, by decide +kernel⟩
theorem sV_L_62_1 : SiteV "ThirdEbbLaw" 62 1 mX1_dryHours 4 := ⟨RX1, TX1, 31, rfl, lw_V q1351 q1352 q1353 q54 q1354, rfl, by decide +kernel, by decide +kernel, by decide +kernel⟩
theorem sV_L_67_1 : SiteV "ThirdEbbLaw" 67 1 mX1_next 3 := ⟨RX1, TX1, 31, rfl, lw_V q1359 q1360 q1361 q54 q1362, rfl, by decide +kernel, by decide +kernel, by decide +kernel⟩
theorem sV_L_72_1 : SiteV "ThirdEbbLaw" 72 1 mX1_soonest 4 := ⟨RX1, TX1, 31, rfl, lw_V q1367 q1368 q1369 q54 q1370, rfl, by decide +kernel, by decide +kernel, by decide +kernel⟩
theorem sV_L_77_1 : SiteV "ThirdEbbLaw" 77 1 mX1_way 5 := ⟨RX1, TX1, 31, rfl, lw_V q1386 q1387 q1388 q54 q1389, rfl, by decide +kernel, by decide +kernel, by decide +kernel⟩
theorem sV_L_81_1 : SiteV "ThirdEbbLaw" 81 1 mX1_latest 4 := ⟨RX1, TX1, 31, rfl, lw_V q1398 q1399 q1400 q54 q1401, rfl, by decide +kernel, by decide +kernel, by decide +kernel⟩
theorem sV_L_86_1 : SiteV "ThirdEbbLaw" 86 1 mX1_round 3 := ⟨RX1, TX1, 31, rfl, lw_V q1402 q1403 q1404 q54 q1405, rfl, by decide +kernel, by decide +kernel, by decide +kernel⟩
theorem sV_L_90_1 : SiteV "ThirdEbbLaw" 90 1 mX1_meeting 3 := ⟨RX1, TX1, 31, rfl, lw_V q1418 q1419 q1420 q54 q1421, rfl, by decide +kernel, by decide +kernel, by decide +kernel⟩
theorem sV_L_94_1 : SiteV "ThirdEbbLaw" 94 1 mX1_saves 4 := ⟨RX1, TX1, 31, rfl, lw_V q1422 q1423 q1424 q54 q1425, rfl, by decide +kernel, by decide +kernel, by decide +kernel⟩
theorem sV_L_98_1 : SiteV "ThirdEbbLaw" 98 1 mX1_table 5 := ⟨RX1, TX1, 31, rfl, lw_V q1426 q1427 q1428 q54 q1429, rfl, by decide +kernel, by decide +kernel, by decide +kernel⟩
theorem sV_L_102_1 : SiteV "ThirdEbbLaw" 102 1 mX1_book 4 := ⟨RX1, TX1, 31, rfl, lw_V q1430 q1431 q1432 q54 q1433, rfl, by decide +kernel, by decide +kernel, by decide +kernel⟩
theorem sV_L_106_1 : SiteV "ThirdEbbLaw" 106 1 mX1_sheet 3 := ⟨RX1, TX1, 31, rfl, lw_V q1437 q1438 q1439 q54 q1440, rfl, by decide +kernel, by decide +kernel, by decide +kernel⟩
theorem sV_L_110_1 : SiteV "ThirdEbbLaw" 110 1 mX1_lose 1 := ⟨RX1, TX1, 31, rfl, lw_V q1441 q1442 q1443 q54 q1444, rfl, by decide +kernel, by decide +kernel, by decide +kernel⟩
theorem sV_L_114_1 : SiteV "ThirdEbbLaw" 114 1 mX1_put 3 := ⟨RX1, TX1, 31, rfl, lw_V q1445 q1446 q1447 q54 q1448, rfl, by decide +kernel, by decide +kernel, by decide +kernel⟩
theorem sV_L_119_1 : SiteV "ThirdEbbLaw" 119 1 mX1_cell 3 := ⟨RX1, TX1, 31, rfl, lw_V q1449 q1450 q1451 q54 q1452, rfl, by decide +kernel, by decide +kernel, by decide +kernel⟩
theorem sV_L_123_1 : SiteV "ThirdEbbLaw" 123 1 mX1_copy 5 := ⟨RX1, TX1, 31, rfl, lw_V q1457 q1458 q1459 q54 q1460, rfl, by decide +kernel, by decide +kernel, by decide +kernel⟩
theorem sV_L_127_1 : SiteV "ThirdEbbLaw" 127 1 mX1_tell 1 := ⟨RX1, TX1, 31, rfl, lw_V q1461 q1462 q1463 q54 q1464, rfl, by decide +kernel, by decide +kernel, by decide +kernel⟩
theorem sV_L_131_1 : SiteV "ThirdEbbLaw" 131 1 mX1_stake 1 := ⟨RX1, TX1, 31, rfl, lw_V q1469 q1470 q1471 q54 q1472, rfl, by decide +kernel, by decide +kernel, by decide +kernel⟩
theorem sV_L_135_1 : SiteV "ThirdEbbLaw" 135 1 mX1_as 2 := ⟨RX1, TX1, 31, rfl, lw_V q1473 q1474 q1475 q54 q1476, rfl, by decide +kernel, by decide +kernel, by decide +kernel⟩
theorem sV_L_139_1 : SiteV "ThirdEbbLaw" 139 1 mX1_trace 0 := ⟨RX1, TX1, 31, rfl, lw_V q1477 q1478 q1479 q54 q1480, rfl, by decide +kernel, by decide +kernel, by decide +kernel⟩
theorem sV_L_143_1 : SiteV "ThirdEbbLaw" 143 1 mX1_fault 0 := ⟨RX1, TX1, 31, rfl, lw_V q1481 q1482 q1483 q54 q1484, rfl, by decide +kernel, by decide +kernel, by decide +kernel⟩
theorem sV_L_147_1 : SiteV "ThirdEbbLaw" 147 1 mX1_many 1 := ⟨RX1, TX1, 31, rfl, lw_V q1485 q1486 q1487 q54 q1488, rfl, by decide +kernel, by decide +kernel, by decide +kernel⟩
theorem sNS_X10_13 : SiteNS "ThirdEbb$Booking" 13 mX0_monthsOf 1 := ⟨⟨"ThirdEbb", lw_meth q855, q853, q50, by decide +kernel, by decide +kernel, by decide +kernel⟩, q854⟩
theorem sNV_X12_29_0 : SiteNV "ThirdEbb$Copying" 29 0 mX0_rowIn 1 := ⟨⟨"ThirdEbb", lw_meth q741, q942, q50, by decide +kernel, by decide +kernel, by decide +kernel⟩, RX0, TX0, 14, rfl, q740, qs19⟩
theorem sNI_X12_7 : SiteNI "ThirdEbb$Copying" 7 mX2_init 1 := ⟨⟨"ThirdEbb", lw_meth q763, q1003, q55, by decide +kernel, by decide +kernel, by decide +kernel⟩, rfl, rfl, q762⟩
theorem sNI_X13_7 : SiteNI "ThirdEbb$Taking" 7 mX2_init 1 := ⟨⟨"ThirdEbb", lw_meth q763, q1116, q55, by decide +kernel, by decide +kernel, by decide +kernel⟩, rfl, rfl, q762⟩
theorem sNV_X2_25_0 : SiteNV "ThirdEbb$Act" 25 0 mX0_fails 1 := ⟨⟨"ThirdEbb", lw_meth q661, q950, q50, by decide +kernel, by decide +kernel, by decide +kernel⟩, RX0, TX0, 14, rfl, q660, qs18⟩
theorem sNI_X3_7 : SiteNI "ThirdEbb$Looking" 7 mX2_init 1 := ⟨⟨"ThirdEbb", lw_meth q763, q761, q55, by decide +kernel, by decide +kernel, by decide +kernel⟩, rfl, rfl, q762⟩
theorem sNV_X3_26_0 : SiteNV "ThirdEbb$Looking" 26 0 mX0_rowIn 1 := ⟨⟨"ThirdEbb", lw_meth q741, q825, q50, by decide +kernel, by decide +kernel, by decide +kernel⟩, RX0, TX0, 14, rfl, q740, qs19⟩
theorem sNS_X3_32 : SiteNS "ThirdEbb$Looking" 32 mX0_cellsOf 4 := ⟨⟨"ThirdEbb", lw_meth q828, q826, q50, by decide +kernel, by decide +kernel, by decide +kernel⟩, q827⟩
theorem sNV_X4_13_0 : SiteNV "ThirdEbb$Filling" 13 0 mX0_newSea 1 := ⟨⟨"ThirdEbb", lw_meth q869, q866, q50, by decide +kernel, by decide +kernel, by decide +kernel⟩, RX0, TX0, 14, rfl, q868, qs23⟩
theorem sNV_X9_17_0 : SiteNV "ThirdEbb$Checking" 17 0 mX0_firstFalse 2 := ⟨⟨"ThirdEbb", lw_meth q862, q859, q50, by decide +kernel, by decide +kernel, by decide +kernel⟩, RX0, TX0, 14, rfl, q861, qs22⟩
theorem g_J1_7_7 : SiteG "java/util/AbstractList" 7 7 0 := ⟨RJ2, TJ2, 3, "java/util/AbstractList", rfl, by decide, in_J2, q107, Or.inl rfl⟩
theorem g_J2_9_7 : SiteG "java/util/ArrayList" 9 7 1 := ⟨RJ2, TJ2, 3, "java/util/ArrayList", rfl, by decide, in_J2, q105, Or.inl rfl⟩
theorem g_J2_48_7 : SiteG "java/util/ArrayList" 48 7 2 := ⟨RJ2, TJ2, 3, "java/util/ArrayList", rfl, by decide, in_J2, q106, Or.inl rfl⟩
theorem g_J2_63_7 : SiteG "java/util/ArrayList" 63 7 0 := ⟨RJ2, TJ2, 3, "java/util/ArrayList", rfl, by decide, in_J2, q108, Or.inr q109⟩
theorem g_X0_61_0 : SiteG "ThirdEbb" 61 0 0 := ⟨RX0, TX0, 14, "ThirdEbb", rfl, by decide, in_X0, q121, Or.inl rfl⟩
theorem g_X0_24_0 : SiteG "ThirdEbb" 24 0 1 := ⟨RX0, TX0, 14, "ThirdEbb", rfl, by decide, in_X0, q122, Or.inl rfl⟩
theorem g_X0_351_0 : SiteG "ThirdEbb" 351 0 2 := ⟨RX0, TX0, 14, "ThirdEbb", rfl, by decide, in_X0, q124, Or.inl rfl⟩
theorem g_X0_28_0 : SiteG "ThirdEbb" 28 0 3 := ⟨RX0, TX0, 14, "ThirdEbb", rfl, by decide, in_X0, q125, Or.inl rfl⟩
theorem g_X0_31_0 : SiteG "ThirdEbb" 31 0 4 := ⟨RX0, TX0, 14, "ThirdEbb", rfl, by decide, in_X0, q126, Or.inl rfl⟩
theorem g_X0_37_0 : SiteG "ThirdEbb" 37 0 5 := ⟨RX0, TX0, 14, "ThirdEbb", rfl, by decide, in_X0, q127, Or.inl rfl⟩
theorem g_X0_40_0 : SiteG "ThirdEbb" 40 0 6 := ⟨RX0, TX0, 14, "ThirdEbb", rfl, by decide, in_X0, q128, Or.inl rfl⟩
theorem g_X0_43_0 : SiteG "ThirdEbb" 43 0 7 := ⟨RX0, TX0, 14, "ThirdEbb", rfl, by decide, in_X0, q129, Or.inl rfl⟩
theorem g_X0_46_0 : SiteG "ThirdEbb" 46 0 8 := ⟨RX0, TX0, 14, "ThirdEbb", rfl, by decide, in_X0, q130, Or.inl rfl⟩
theorem g_X0_49_0 : SiteG "ThirdEbb" 49 0 9 := ⟨RX0, TX0, 14, "ThirdEbb", rfl, by decide, in_X0, q131, Or.inl rfl⟩
theorem g_X0_224_0 : SiteG "ThirdEbb" 224 0 10 := ⟨RX0, TX0, 14, "ThirdEbb", rfl, by decide, in_X0, q132, Or.inl rfl⟩
theorem g_X0_52_0 : SiteG "ThirdEbb" 52 0 11 := ⟨RX0, TX0, 14, "ThirdEbb", rfl, by decide, in_X0, q133, Or.inl rfl⟩
theorem g_X0_242_0 : SiteG "ThirdEbb" 242 0 12 := ⟨RX0, TX0, 14, "ThirdEbb", rfl, by decide, in_X0, q135, Or.inl rfl⟩
theorem g_X0_57_0 : SiteG "ThirdEbb" 57 0 13 := ⟨RX0, TX0, 14, "ThirdEbb", rfl, by decide, in_X0, q136, Or.inl rfl⟩
theorem g_X0_181_3 : SiteG "ThirdEbb" 181 3 0 := ⟨RX6, TX6, 7, "ThirdEbb$Soft", rfl, by decide, in_X6, q270, Or.inl rfl⟩
theorem g_X0_181_4 : SiteG "ThirdEbb" 181 4 0 := ⟨RX7, TX7, 8, "ThirdEbb$Soft", rfl, by decide, in_X7, q270, Or.inl rfl⟩
theorem g_X0_181_5 : SiteG "ThirdEbb" 181 5 0 := ⟨RX8, TX8, 9, "ThirdEbb$Soft", rfl, by decide, in_X8, q270, Or.inl rfl⟩
theorem g_X0_167_3 : SiteG "ThirdEbb" 167 3 5 := ⟨RX6, TX6, 7, "ThirdEbb$Soft", rfl, by decide, in_X6, q278, Or.inl rfl⟩
theorem g_X0_167_4 : SiteG "ThirdEbb" 167 4 5 := ⟨RX7, TX7, 8, "ThirdEbb$Soft", rfl, by decide, in_X7, q278, Or.inl rfl⟩
theorem g_X0_167_5 : SiteG "ThirdEbb" 167 5 5 := ⟨RX8, TX8, 9, "ThirdEbb$Soft", rfl, by decide, in_X8, q278, Or.inl rfl⟩
theorem g_X0_252_6 : SiteG "ThirdEbb" 252 6 0 := ⟨RX11, TX11, 1, "ThirdEbb$Sheet", rfl, by decide, in_X11, q653, Or.inl rfl⟩
theorem g_X0_307_8 : SiteG "ThirdEbb" 307 8 0 := ⟨RX4, TX4, 7, "ThirdEbb$Looking", rfl, by decide, in_X4, q767, Or.inl rfl⟩
theorem g_X0_307_9 : SiteG "ThirdEbb" 307 9 0 := ⟨RX9, TX9, 8, "ThirdEbb$Looking", rfl, by decide, in_X9, q767, Or.inl rfl⟩
theorem g_X0_307_10 : SiteG "ThirdEbb" 307 10 0 := ⟨RX10, TX10, 7, "ThirdEbb$Looking", rfl, by decide, in_X10, q767, Or.inl rfl⟩
theorem g_X0_312_8 : SiteG "ThirdEbb" 312 8 1 := ⟨RX4, TX4, 7, "ThirdEbb$Looking", rfl, by decide, in_X4, q769, Or.inl rfl⟩
theorem g_X0_312_9 : SiteG "ThirdEbb" 312 9 1 := ⟨RX9, TX9, 8, "ThirdEbb$Looking", rfl, by decide, in_X9, q769, Or.inl rfl⟩
theorem g_X0_312_10 : SiteG "ThirdEbb" 312 10 1 := ⟨RX10, TX10, 7, "ThirdEbb$Looking", rfl, by decide, in_X10, q769, Or.inl rfl⟩
theorem gN_X0_116_2 : SiteGN "ThirdEbb" 116 2 0 := ⟨RX5, TX5, 3, "ThirdEbb$Moon", "ThirdEbb", rfl, by decide, in_X5, q897, Or.inl rfl⟩
theorem gN_X0_119_2 : SiteGN "ThirdEbb" 119 2 1 := ⟨RX5, TX5, 3, "ThirdEbb$Moon", "ThirdEbb", rfl, by decide, in_X5, q899, Or.inl rfl⟩
theorem gN_X0_122_2 : SiteGN "ThirdEbb" 122 2 2 := ⟨RX5, TX5, 3, "ThirdEbb$Moon", "ThirdEbb", rfl, by decide, in_X5, q901, Or.inl rfl⟩
theorem g_X1_76_1 : SiteG "ThirdEbbModel" 76 1 0 := ⟨RX1, TX1, 31, "ThirdEbbModel", rfl, by decide, in_X1, q1149, Or.inl rfl⟩
theorem g_X1_211_1 : SiteG "ThirdEbbModel" 211 1 1 := ⟨RX1, TX1, 31, "ThirdEbbModel", rfl, by decide, in_X1, q1150, Or.inl rfl⟩
theorem g_X1_9_1 : SiteG "ThirdEbbModel" 9 1 2 := ⟨RX1, TX1, 31, "ThirdEbbModel", rfl, by decide, in_X1, q1151, Or.inl rfl⟩
theorem g_X1_13_1 : SiteG "ThirdEbbModel" 13 1 3 := ⟨RX1, TX1, 31, "ThirdEbbModel", rfl, by decide, in_X1, q1152, Or.inl rfl⟩
theorem g_X1_16_1 : SiteG "ThirdEbbModel" 16 1 4 := ⟨RX1, TX1, 31, "ThirdEbbModel", rfl, by decide, in_X1, q1153, Or.inl rfl⟩
theorem g_X1_86_1 : SiteG "ThirdEbbModel" 86 1 5 := ⟨RX1, TX1, 31, "ThirdEbbModel", rfl, by decide, in_X1, q1154, Or.inl rfl⟩
theorem g_X1_120_1 : SiteG "ThirdEbbModel" 120 1 6 := ⟨RX1, TX1, 31, "ThirdEbbModel", rfl, by decide, in_X1, q1155, Or.inl rfl⟩
theorem g_X1_19_1 : SiteG "ThirdEbbModel" 19 1 7 := ⟨RX1, TX1, 31, "ThirdEbbModel", rfl, by decide, in_X1, q1156, Or.inl rfl⟩
theorem g_X1_22_1 : SiteG "ThirdEbbModel" 22 1 8 := ⟨RX1, TX1, 31, "ThirdEbbModel", rfl, by decide, in_X1, q1157, Or.inl rfl⟩
theorem g_X1_25_1 : SiteG "ThirdEbbModel" 25 1 9 := ⟨RX1, TX1, 31, "ThirdEbbModel", rfl, by decide, in_X1, q1158, Or.inl rfl⟩
theorem g_X1_89_1 : SiteG "ThirdEbbModel" 89 1 10 := ⟨RX1, TX1, 31, "ThirdEbbModel", rfl, by decide, in_X1, q1159, Or.inl rfl⟩
theorem g_X1_114_1 : SiteG "ThirdEbbModel" 114 1 11 := ⟨RX1, TX1, 31, "ThirdEbbModel", rfl, by decide, in_X1, q1160, Or.inl rfl⟩
theorem g_X1_117_1 : SiteG "ThirdEbbModel" 117 1 12 := ⟨RX1, TX1, 31, "ThirdEbbModel", rfl, by decide, in_X1, q1161, Or.inl rfl⟩
theorem g_X1_28_1 : SiteG "ThirdEbbModel" 28 1 13 := ⟨RX1, TX1, 31, "ThirdEbbModel", rfl, by decide, in_X1, q1162, Or.inl rfl⟩
theorem g_X1_31_1 : SiteG "ThirdEbbModel" 31 1 14 := ⟨RX1, TX1, 31, "ThirdEbbModel", rfl, by decide, in_X1, q1163, Or.inl rfl⟩
theorem g_X1_34_1 : SiteG "ThirdEbbModel" 34 1 15 := ⟨RX1, TX1, 31, "ThirdEbbModel", rfl, by decide, in_X1, q1164, Or.inl rfl⟩
theorem g_X1_123_1 : SiteG "ThirdEbbModel" 123 1 16 := ⟨RX1, TX1, 31, "ThirdEbbModel", rfl, by decide, in_X1, q1165, Or.inl rfl⟩
theorem g_X1_37_1 : SiteG "ThirdEbbModel" 37 1 17 := ⟨RX1, TX1, 31, "ThirdEbbModel", rfl, by decide, in_X1, q1166, Or.inl rfl⟩
theorem g_X1_40_1 : SiteG "ThirdEbbModel" 40 1 18 := ⟨RX1, TX1, 31, "ThirdEbbModel", rfl, by decide, in_X1, q1167, Or.inl rfl⟩
theorem g_X1_43_1 : SiteG "ThirdEbbModel" 43 1 19 := ⟨RX1, TX1, 31, "ThirdEbbModel", rfl, by decide, in_X1, q1168, Or.inl rfl⟩
theorem g_X1_46_1 : SiteG "ThirdEbbModel" 46 1 20 := ⟨RX1, TX1, 31, "ThirdEbbModel", rfl, by decide, in_X1, q1169, Or.inl rfl⟩
theorem g_X1_49_1 : SiteG "ThirdEbbModel" 49 1 21 := ⟨RX1, TX1, 31, "ThirdEbbModel", rfl, by decide, in_X1, q1170, Or.inl rfl⟩
theorem g_X1_52_1 : SiteG "ThirdEbbModel" 52 1 22 := ⟨RX1, TX1, 31, "ThirdEbbModel", rfl, by decide, in_X1, q1171, Or.inl rfl⟩
theorem g_X1_55_1 : SiteG "ThirdEbbModel" 55 1 23 := ⟨RX1, TX1, 31, "ThirdEbbModel", rfl, by decide, in_X1, q1172, Or.inl rfl⟩
theorem g_X1_58_1 : SiteG "ThirdEbbModel" 58 1 24 := ⟨RX1, TX1, 31, "ThirdEbbModel", rfl, by decide, in_X1, q1173, Or.inl rfl⟩
theorem g_X1_61_1 : SiteG "ThirdEbbModel" 61 1 25 := ⟨RX1, TX1, 31, "ThirdEbbModel", rfl, by decide, in_X1, q1174, Or.inl rfl⟩
theorem g_X1_185_1 : SiteG "ThirdEbbModel" 185 1 26 := ⟨RX1, TX1, 31, "ThirdEbbModel", rfl, by decide, in_X1, q1175, Or.inl rfl⟩
theorem g_X1_64_1 : SiteG "ThirdEbbModel" 64 1 27 := ⟨RX1, TX1, 31, "ThirdEbbModel", rfl, by decide, in_X1, q1176, Or.inl rfl⟩
theorem g_X1_67_1 : SiteG "ThirdEbbModel" 67 1 28 := ⟨RX1, TX1, 31, "ThirdEbbModel", rfl, by decide, in_X1, q1177, Or.inl rfl⟩
theorem g_X1_70_1 : SiteG "ThirdEbbModel" 70 1 29 := ⟨RX1, TX1, 31, "ThirdEbbModel", rfl, by decide, in_X1, q1178, Or.inl rfl⟩
theorem g_X1_73_1 : SiteG "ThirdEbbModel" 73 1 30 := ⟨RX1, TX1, 31, "ThirdEbbModel", rfl, by decide, in_X1, q1179, Or.inl rfl⟩
theorem g_X10_1_10 : SiteG "ThirdEbb$Booking" 1 10 6 := ⟨RX10, TX10, 7, "ThirdEbb$Booking", rfl, by decide, in_X10, q984, Or.inl rfl⟩
theorem g_X11_7_6 : SiteG "ThirdEbb$Sheet" 7 6 0 := ⟨RX11, TX11, 1, "ThirdEbb$Sheet", rfl, by decide, in_X11, q652, Or.inl rfl⟩
theorem g_X12_13_11 : SiteG "ThirdEbb$Copying" 13 11 1 := ⟨RX12, TX12, 7, "ThirdEbb$Copying", rfl, by decide, in_X12, q1004, Or.inl rfl⟩
theorem g_X12_17_11 : SiteG "ThirdEbb$Copying" 17 11 2 := ⟨RX12, TX12, 7, "ThirdEbb$Copying", rfl, by decide, in_X12, q1005, Or.inl rfl⟩
theorem g_X12_20_11 : SiteG "ThirdEbb$Copying" 20 11 3 := ⟨RX12, TX12, 7, "ThirdEbb$Copying", rfl, by decide, in_X12, q1006, Or.inl rfl⟩
theorem g_X12_23_11 : SiteG "ThirdEbb$Copying" 23 11 4 := ⟨RX12, TX12, 7, "ThirdEbb$Copying", rfl, by decide, in_X12, q1007, Or.inl rfl⟩
theorem g_X12_26_11 : SiteG "ThirdEbb$Copying" 26 11 5 := ⟨RX12, TX12, 7, "ThirdEbb$Copying", rfl, by decide, in_X12, q1008, Or.inl rfl⟩
theorem g_X12_1_11 : SiteG "ThirdEbb$Copying" 1 11 6 := ⟨RX12, TX12, 7, "ThirdEbb$Copying", rfl, by decide, in_X12, q1009, Or.inl rfl⟩
theorem g_X13_21_3 : SiteG "ThirdEbb$Taking" 21 3 0 := ⟨RX6, TX6, 7, "ThirdEbb$Soft", rfl, by decide, in_X6, q265, Or.inl rfl⟩
theorem g_X13_21_4 : SiteG "ThirdEbb$Taking" 21 4 0 := ⟨RX7, TX7, 8, "ThirdEbb$Soft", rfl, by decide, in_X7, q265, Or.inl rfl⟩
theorem g_X13_21_5 : SiteG "ThirdEbb$Taking" 21 5 0 := ⟨RX8, TX8, 9, "ThirdEbb$Soft", rfl, by decide, in_X8, q265, Or.inl rfl⟩
theorem g_X13_28_3 : SiteG "ThirdEbb$Taking" 28 3 0 := ⟨RX6, TX6, 7, "ThirdEbb$Bridged", rfl, by decide, in_X6, q266, Or.inr q267⟩
theorem g_X13_28_4 : SiteG "ThirdEbb$Taking" 28 4 0 := ⟨RX7, TX7, 8, "ThirdEbb$Bridged", rfl, by decide, in_X7, q266, Or.inr q267⟩
theorem g_X13_28_5 : SiteG "ThirdEbb$Taking" 28 5 0 := ⟨RX8, TX8, 9, "ThirdEbb$Bridged", rfl, by decide, in_X8, q266, Or.inr q267⟩
theorem g_X13_31_3 : SiteG "ThirdEbb$Taking" 31 3 0 := ⟨RX6, TX6, 7, "ThirdEbb$Shifting", rfl, by decide, in_X6, q268, Or.inr q269⟩
theorem g_X13_31_4 : SiteG "ThirdEbb$Taking" 31 4 0 := ⟨RX7, TX7, 8, "ThirdEbb$Shifting", rfl, by decide, in_X7, q268, Or.inr q269⟩
theorem g_X13_31_5 : SiteG "ThirdEbb$Taking" 31 5 0 := ⟨RX8, TX8, 9, "ThirdEbb$Shifting", rfl, by decide, in_X8, q268, Or.inr q269⟩
theorem g_X13_13_12 : SiteG "ThirdEbb$Taking" 13 12 1 := ⟨RX13, TX13, 4, "ThirdEbb$Taking", rfl, by decide, in_X13, q1117, Or.inl rfl⟩
theorem g_X13_17_12 : SiteG "ThirdEbb$Taking" 17 12 2 := ⟨RX13, TX13, 4, "ThirdEbb$Taking", rfl, by decide, in_X13, q1118, Or.inl rfl⟩
theorem g_X13_1_12 : SiteG "ThirdEbb$Taking" 1 12 3 := ⟨RX13, TX13, 4, "ThirdEbb$Taking", rfl, by decide, in_X13, q1119, Or.inl rfl⟩
theorem gN_X2_15_0 : SiteGN "ThirdEbb$Act" 15 0 12 := ⟨RX0, TX0, 14, "ThirdEbb", "ThirdEbb", rfl, by decide, in_X0, q134, Or.inl rfl⟩
theorem g_X2_3_8 : SiteG "ThirdEbb$Act" 3 8 5 := ⟨RX4, TX4, 7, "ThirdEbb$Act", rfl, by decide, in_X4, q773, Or.inl rfl⟩
theorem g_X2_3_9 : SiteG "ThirdEbb$Act" 3 9 5 := ⟨RX9, TX9, 8, "ThirdEbb$Act", rfl, by decide, in_X9, q773, Or.inl rfl⟩
theorem g_X2_3_10 : SiteG "ThirdEbb$Act" 3 10 5 := ⟨RX10, TX10, 7, "ThirdEbb$Act", rfl, by decide, in_X10, q773, Or.inl rfl⟩
theorem g_X2_3_11 : SiteG "ThirdEbb$Act" 3 11 0 := ⟨RX12, TX12, 7, "ThirdEbb$Act", rfl, by decide, in_X12, q773, Or.inl rfl⟩
theorem g_X2_3_12 : SiteG "ThirdEbb$Act" 3 12 0 := ⟨RX13, TX13, 4, "ThirdEbb$Act", rfl, by decide, in_X13, q773, Or.inl rfl⟩
theorem g_X3_13_8 : SiteG "ThirdEbb$Looking" 13 8 0 := ⟨RX4, TX4, 7, "ThirdEbb$Looking", rfl, by decide, in_X4, q766, Or.inl rfl⟩
theorem g_X3_13_9 : SiteG "ThirdEbb$Looking" 13 9 0 := ⟨RX9, TX9, 8, "ThirdEbb$Looking", rfl, by decide, in_X9, q766, Or.inl rfl⟩
theorem g_X3_13_10 : SiteG "ThirdEbb$Looking" 13 10 0 := ⟨RX10, TX10, 7, "ThirdEbb$Looking", rfl, by decide, in_X10, q766, Or.inl rfl⟩
theorem g_X3_17_8 : SiteG "ThirdEbb$Looking" 17 8 1 := ⟨RX4, TX4, 7, "ThirdEbb$Looking", rfl, by decide, in_X4, q768, Or.inl rfl⟩
theorem g_X3_17_9 : SiteG "ThirdEbb$Looking" 17 9 1 := ⟨RX9, TX9, 8, "ThirdEbb$Looking", rfl, by decide, in_X9, q768, Or.inl rfl⟩
theorem g_X3_17_10 : SiteG "ThirdEbb$Looking" 17 10 1 := ⟨RX10, TX10, 7, "ThirdEbb$Looking", rfl, by decide, in_X10, q768, Or.inl rfl⟩
theorem g_X3_20_8 : SiteG "ThirdEbb$Looking" 20 8 2 := ⟨RX4, TX4, 7, "ThirdEbb$Looking", rfl, by decide, in_X4, q770, Or.inl rfl⟩
theorem g_X3_20_9 : SiteG "ThirdEbb$Looking" 20 9 2 := ⟨RX9, TX9, 8, "ThirdEbb$Looking", rfl, by decide, in_X9, q770, Or.inl rfl⟩
theorem g_X3_20_10 : SiteG "ThirdEbb$Looking" 20 10 2 := ⟨RX10, TX10, 7, "ThirdEbb$Looking", rfl, by decide, in_X10, q770, Or.inl rfl⟩
theorem g_X3_23_8 : SiteG "ThirdEbb$Looking" 23 8 3 := ⟨RX4, TX4, 7, "ThirdEbb$Looking", rfl, by decide, in_X4, q771, Or.inl rfl⟩
theorem g_X3_23_9 : SiteG "ThirdEbb$Looking" 23 9 3 := ⟨RX9, TX9, 8, "ThirdEbb$Looking", rfl, by decide, in_X9, q771, Or.inl rfl⟩
theorem g_X3_23_10 : SiteG "ThirdEbb$Looking" 23 10 3 := ⟨RX10, TX10, 7, "ThirdEbb$Looking", rfl, by decide, in_X10, q771, Or.inl rfl⟩
theorem g_X3_1_8 : SiteG "ThirdEbb$Looking" 1 8 4 := ⟨RX4, TX4, 7, "ThirdEbb$Looking", rfl, by decide, in_X4, q772, Or.inl rfl⟩
theorem g_X3_1_9 : SiteG "ThirdEbb$Looking" 1 9 4 := ⟨RX9, TX9, 8, "ThirdEbb$Looking", rfl, by decide, in_X9, q772, Or.inl rfl⟩
theorem g_X3_1_10 : SiteG "ThirdEbb$Looking" 1 10 4 := ⟨RX10, TX10, 7, "ThirdEbb$Looking", rfl, by decide, in_X10, q772, Or.inl rfl⟩
theorem g_X4_1_8 : SiteG "ThirdEbb$Filling" 1 8 6 := ⟨RX4, TX4, 7, "ThirdEbb$Filling", rfl, by decide, in_X4, q765, Or.inl rfl⟩
theorem g_X5_7_2 : SiteG "ThirdEbb$Moon" 7 2 0 := ⟨RX5, TX5, 3, "ThirdEbb$Moon", rfl, by decide, in_X5, q896, Or.inl rfl⟩
theorem g_X5_13_2 : SiteG "ThirdEbb$Moon" 13 2 1 := ⟨RX5, TX5, 3, "ThirdEbb$Moon", rfl, by decide, in_X5, q898, Or.inl rfl⟩
theorem g_X5_16_2 : SiteG "ThirdEbb$Moon" 16 2 2 := ⟨RX5, TX5, 3, "ThirdEbb$Moon", rfl, by decide, in_X5, q900, Or.inl rfl⟩
theorem gN_X6_38_0 : SiteGN "ThirdEbb$Soft" 38 0 2 := ⟨RX0, TX0, 14, "ThirdEbb", "ThirdEbb", rfl, by decide, in_X0, q123, Or.inl rfl⟩
theorem g_X6_15_3 : SiteG "ThirdEbb$Soft" 15 3 0 := ⟨RX6, TX6, 7, "ThirdEbb$Soft", rfl, by decide, in_X6, q264, Or.inl rfl⟩
theorem g_X6_15_4 : SiteG "ThirdEbb$Soft" 15 4 0 := ⟨RX7, TX7, 8, "ThirdEbb$Soft", rfl, by decide, in_X7, q264, Or.inl rfl⟩
theorem g_X6_15_5 : SiteG "ThirdEbb$Soft" 15 5 0 := ⟨RX8, TX8, 9, "ThirdEbb$Soft", rfl, by decide, in_X8, q264, Or.inl rfl⟩
theorem g_X6_19_3 : SiteG "ThirdEbb$Soft" 19 3 1 := ⟨RX6, TX6, 7, "ThirdEbb$Soft", rfl, by decide, in_X6, q271, Or.inl rfl⟩
theorem g_X6_19_4 : SiteG "ThirdEbb$Soft" 19 4 1 := ⟨RX7, TX7, 8, "ThirdEbb$Soft", rfl, by decide, in_X7, q271, Or.inl rfl⟩
theorem g_X6_19_5 : SiteG "ThirdEbb$Soft" 19 5 1 := ⟨RX8, TX8, 9, "ThirdEbb$Soft", rfl, by decide, in_X8, q271, Or.inl rfl⟩
theorem g_X6_22_3 : SiteG "ThirdEbb$Soft" 22 3 2 := ⟨RX6, TX6, 7, "ThirdEbb$Soft", rfl, by decide, in_X6, q272, Or.inl rfl⟩
theorem g_X6_22_4 : SiteG "ThirdEbb$Soft" 22 4 2 := ⟨RX7, TX7, 8, "ThirdEbb$Soft", rfl, by decide, in_X7, q272, Or.inl rfl⟩
theorem g_X6_22_5 : SiteG "ThirdEbb$Soft" 22 5 2 := ⟨RX8, TX8, 9, "ThirdEbb$Soft", rfl, by decide, in_X8, q272, Or.inl rfl⟩
theorem g_X6_25_3 : SiteG "ThirdEbb$Soft" 25 3 3 := ⟨RX6, TX6, 7, "ThirdEbb$Soft", rfl, by decide, in_X6, q273, Or.inl rfl⟩
theorem g_X6_25_4 : SiteG "ThirdEbb$Soft" 25 4 3 := ⟨RX7, TX7, 8, "ThirdEbb$Soft", rfl, by decide, in_X7, q273, Or.inl rfl⟩
theorem g_X6_25_5 : SiteG "ThirdEbb$Soft" 25 5 3 := ⟨RX8, TX8, 9, "ThirdEbb$Soft", rfl, by decide, in_X8, q273, Or.inl rfl⟩
theorem g_X6_28_3 : SiteG "ThirdEbb$Soft" 28 3 4 := ⟨RX6, TX6, 7, "ThirdEbb$Soft", rfl, by decide, in_X6, q274, Or.inl rfl⟩
theorem g_X6_28_4 : SiteG "ThirdEbb$Soft" 28 4 4 := ⟨RX7, TX7, 8, "ThirdEbb$Soft", rfl, by decide, in_X7, q274, Or.inl rfl⟩
theorem g_X6_28_5 : SiteG "ThirdEbb$Soft" 28 5 4 := ⟨RX8, TX8, 9, "ThirdEbb$Soft", rfl, by decide, in_X8, q274, Or.inl rfl⟩
theorem g_X6_35_3 : SiteG "ThirdEbb$Soft" 35 3 5 := ⟨RX6, TX6, 7, "ThirdEbb$Soft", rfl, by decide, in_X6, q277, Or.inl rfl⟩
theorem g_X6_35_4 : SiteG "ThirdEbb$Soft" 35 4 5 := ⟨RX7, TX7, 8, "ThirdEbb$Soft", rfl, by decide, in_X7, q277, Or.inl rfl⟩
theorem g_X6_35_5 : SiteG "ThirdEbb$Soft" 35 5 5 := ⟨RX8, TX8, 9, "ThirdEbb$Soft", rfl, by decide, in_X8, q277, Or.inl rfl⟩
theorem g_X6_3_3 : SiteG "ThirdEbb$Soft" 3 3 6 := ⟨RX6, TX6, 7, "ThirdEbb$Soft", rfl, by decide, in_X6, q279, Or.inl rfl⟩
theorem g_X6_3_4 : SiteG "ThirdEbb$Soft" 3 4 6 := ⟨RX7, TX7, 8, "ThirdEbb$Soft", rfl, by decide, in_X7, q279, Or.inl rfl⟩
theorem g_X6_3_5 : SiteG "ThirdEbb$Soft" 3 5 6 := ⟨RX8, TX8, 9, "ThirdEbb$Soft", rfl, by decide, in_X8, q279, Or.inl rfl⟩
theorem g_X7_17_3 : SiteG "ThirdEbb$Bridged" 17 3 5 := ⟨RX6, TX6, 7, "ThirdEbb$Bridged", rfl, by decide, in_X6, q275, Or.inr q276⟩
theorem g_X7_17_4 : SiteG "ThirdEbb$Bridged" 17 4 5 := ⟨RX7, TX7, 8, "ThirdEbb$Bridged", rfl, by decide, in_X7, q275, Or.inr q276⟩
theorem g_X7_17_5 : SiteG "ThirdEbb$Bridged" 17 5 5 := ⟨RX8, TX8, 9, "ThirdEbb$Bridged", rfl, by decide, in_X8, q275, Or.inr q276⟩
theorem g_X7_1_4 : SiteG "ThirdEbb$Bridged" 1 4 7 := ⟨RX7, TX7, 8, "ThirdEbb$Bridged", rfl, by decide, in_X7, q301, Or.inl rfl⟩
theorem g_X7_1_5 : SiteG "ThirdEbb$Bridged" 1 5 7 := ⟨RX8, TX8, 9, "ThirdEbb$Bridged", rfl, by decide, in_X8, q301, Or.inl rfl⟩
theorem g_X8_1_5 : SiteG "ThirdEbb$Shifting" 1 5 8 := ⟨RX8, TX8, 9, "ThirdEbb$Shifting", rfl, by decide, in_X8, q318, Or.inl rfl⟩
theorem g_X9_13_9 : SiteG "ThirdEbb$Checking" 13 9 6 := ⟨RX9, TX9, 8, "ThirdEbb$Checking", rfl, by decide, in_X9, q961, Or.inl rfl⟩
theorem g_X9_1_9 : SiteG "ThirdEbb$Checking" 1 9 7 := ⟨RX9, TX9, 8, "ThirdEbb$Checking", rfl, by decide, in_X9, q962, Or.inl rfl⟩
theorem cw_0 : ClsW 0 := ⟨RX0, TX0, 14, tyX0, rfl, in_X0, tyX0_ok, by decide +kernel⟩
theorem fw_0_0 : FldW 0 0 false (.int) := ⟨RX0, TX0, 14, rfl, rfl, by decide +kernel⟩
theorem fw_0_1 : FldW 0 1 true (.object "java/util/List") := ⟨RX0, TX0, 14, rfl, rfl, by decide +kernel⟩
theorem fo_0_1 : FldO 0 1 "ThirdEbb" := ⟨RX0, TX0, 14, rfl, rfl⟩
theorem fw_0_2 : FldW 0 2 false (.int) := ⟨RX0, TX0, 14, rfl, rfl, by decide +kernel⟩
theorem fw_0_3 : FldW 0 3 true (.object "java/util/List") := ⟨RX0, TX0, 14, rfl, rfl, by decide +kernel⟩
theorem fo_0_3 : FldO 0 3 "ThirdEbb" := ⟨RX0, TX0, 14, rfl, rfl⟩
theorem fw_0_4 : FldW 0 4 true (.array .int) := ⟨RX0, TX0, 14, rfl, rfl, by decide +kernel⟩
theorem fo_0_4 : FldO 0 4 "ThirdEbb" := ⟨RX0, TX0, 14, rfl, rfl⟩
theorem fw_0_5 : FldW 0 5 true (.array (.array .int)) := ⟨RX0, TX0, 14, rfl, rfl, by decide +kernel⟩
theorem fo_0_5 : FldO 0 5 "ThirdEbb" := ⟨RX0, TX0, 14, rfl, rfl⟩
theorem fw_0_6 : FldW 0 6 true (.array .int) := ⟨RX0, TX0, 14, rfl, rfl, by decide +kernel⟩
theorem fo_0_6 : FldO 0 6 "ThirdEbb" := ⟨RX0, TX0, 14, rfl, rfl⟩
theorem fw_0_7 : FldW 0 7 true (.array .int) := ⟨RX0, TX0, 14, rfl, rfl, by decide +kernel⟩
theorem fo_0_7 : FldO 0 7 "ThirdEbb" := ⟨RX0, TX0, 14, rfl, rfl⟩
theorem fw_0_8 : FldW 0 8 true (.array .int) := ⟨RX0, TX0, 14, rfl, rfl, by decide +kernel⟩
theorem fo_0_8 : FldO 0 8 "ThirdEbb" := ⟨RX0, TX0, 14, rfl, rfl⟩
theorem fw_0_9 : FldW 0 9 true (.array .int) := ⟨RX0, TX0, 14, rfl, rfl, by decide +kernel⟩
theorem fo_0_9 : FldO 0 9 "ThirdEbb" := ⟨RX0, TX0, 14, rfl, rfl⟩
theorem fw_0_10 : FldW 0 10 false (.int) := ⟨RX0, TX0, 14, rfl, rfl, by decide +kernel⟩
theorem fw_0_11 : FldW 0 11 true (.array .int) := ⟨RX0, TX0, 14, rfl, rfl, by decide +kernel⟩
theorem fo_0_11 : FldO 0 11 "ThirdEbb" := ⟨RX0, TX0, 14, rfl, rfl⟩
theorem fw_0_12 : FldW 0 12 false (.int) := ⟨RX0, TX0, 14, rfl, rfl, by decide +kernel⟩
theorem fw_0_13 : FldW 0 13 true (.array (.object "ThirdEbb$Sheet")) := ⟨RX0, TX0, 14, rfl, rfl, by decide +kernel⟩
theorem fo_0_13 : FldO 0 13 "ThirdEbb" := ⟨RX0, TX0, 14, rfl, rfl⟩
theorem dv_0 : DefV 0 14 [.int 0, .null, .int 0, .null, .null, .null, .null, .null, .null, .null, .int 0, .null, .int 0, .null] := ⟨RX0, TX0, rfl, fun j hj ty h => by
  have h2 := tyX0_ok j hj
  rw [h] at h2
  cases h2
  match j, hj with | 0, _ => rfl | 1, _ => rfl | 2, _ => rfl | 3, _ => rfl | 4, _ => rfl | 5, _ => rfl | 6, _ => rfl | 7, _ => rfl | 8, _ => rfl | 9, _ => rfl | 10, _ => rfl | 11, _ => rfl | 12, _ => rfl | 13, _ => rfl | j + 14, hj => exact absurd hj (by omega)⟩
theorem cw_1 : ClsW 1 := ⟨RX1, TX1, 31, tyX1, rfl, in_X1, tyX1_ok, by decide +kernel⟩
theorem fw_1_0 : FldW 1 0 false (.int) := ⟨RX1, TX1, 31, rfl, rfl, by decide +kernel⟩
theorem fw_1_1 : FldW 1 1 false (.int) := ⟨RX1, TX1, 31, rfl, rfl, by decide +kernel⟩
theorem fw_1_2 : FldW 1 2 true (.array .int) := ⟨RX1, TX1, 31, rfl, rfl, by decide +kernel⟩
theorem fo_1_2 : FldO 1 2 "ThirdEbbModel" := ⟨RX1, TX1, 31, rfl, rfl⟩
theorem fw_1_3 : FldW 1 3 true (.array .int) := ⟨RX1, TX1, 31, rfl, rfl, by decide +kernel⟩
theorem fo_1_3 : FldO 1 3 "ThirdEbbModel" := ⟨RX1, TX1, 31, rfl, rfl⟩
theorem fw_1_4 : FldW 1 4 true (.array .int) := ⟨RX1, TX1, 31, rfl, rfl, by decide +kernel⟩
theorem fo_1_4 : FldO 1 4 "ThirdEbbModel" := ⟨RX1, TX1, 31, rfl, rfl⟩
theorem fw_1_5 : FldW 1 5 false (.int) := ⟨RX1, TX1, 31, rfl, rfl, by decide +kernel⟩
theorem fw_1_6 : FldW 1 6 false (.int) := ⟨RX1, TX1, 31, rfl, rfl, by decide +kernel⟩
theorem fw_1_7 : FldW 1 7 true (.array .int) := ⟨RX1, TX1, 31, rfl, rfl, by decide +kernel⟩
theorem fo_1_7 : FldO 1 7 "ThirdEbbModel" := ⟨RX1, TX1, 31, rfl, rfl⟩
theorem fw_1_8 : FldW 1 8 true (.array .int) := ⟨RX1, TX1, 31, rfl, rfl, by decide +kernel⟩
theorem fo_1_8 : FldO 1 8 "ThirdEbbModel" := ⟨RX1, TX1, 31, rfl, rfl⟩
theorem fw_1_9 : FldW 1 9 true (.array .int) := ⟨RX1, TX1, 31, rfl, rfl, by decide +kernel⟩
theorem fo_1_9 : FldO 1 9 "ThirdEbbModel" := ⟨RX1, TX1, 31, rfl, rfl⟩
theorem fw_1_10 : FldW 1 10 false (.int) := ⟨RX1, TX1, 31, rfl, rfl, by decide +kernel⟩
theorem fw_1_11 : FldW 1 11 false (.int) := ⟨RX1, TX1, 31, rfl, rfl, by decide +kernel⟩
theorem fw_1_12 : FldW 1 12 false (.int) := ⟨RX1, TX1, 31, rfl, rfl, by decide +kernel⟩
theorem fw_1_13 : FldW 1 13 true (.array .int) := ⟨RX1, TX1, 31, rfl, rfl, by decide +kernel⟩
theorem fo_1_13 : FldO 1 13 "ThirdEbbModel" := ⟨RX1, TX1, 31, rfl, rfl⟩
theorem fw_1_14 : FldW 1 14 true (.array .int) := ⟨RX1, TX1, 31, rfl, rfl, by decide +kernel⟩
theorem fo_1_14 : FldO 1 14 "ThirdEbbModel" := ⟨RX1, TX1, 31, rfl, rfl⟩
theorem fw_1_15 : FldW 1 15 true (.array .int) := ⟨RX1, TX1, 31, rfl, rfl, by decide +kernel⟩
theorem fo_1_15 : FldO 1 15 "ThirdEbbModel" := ⟨RX1, TX1, 31, rfl, rfl⟩
theorem fw_1_16 : FldW 1 16 false (.int) := ⟨RX1, TX1, 31, rfl, rfl, by decide +kernel⟩
theorem fw_1_17 : FldW 1 17 true (.array .int) := ⟨RX1, TX1, 31, rfl, rfl, by decide +kernel⟩
theorem fo_1_17 : FldO 1 17 "ThirdEbbModel" := ⟨RX1, TX1, 31, rfl, rfl⟩
theorem fw_1_18 : FldW 1 18 true (.array .int) := ⟨RX1, TX1, 31, rfl, rfl, by decide +kernel⟩
theorem fo_1_18 : FldO 1 18 "ThirdEbbModel" := ⟨RX1, TX1, 31, rfl, rfl⟩
theorem fw_1_19 : FldW 1 19 true (.array .int) := ⟨RX1, TX1, 31, rfl, rfl, by decide +kernel⟩
theorem fo_1_19 : FldO 1 19 "ThirdEbbModel" := ⟨RX1, TX1, 31, rfl, rfl⟩
theorem fw_1_20 : FldW 1 20 true (.array .int) := ⟨RX1, TX1, 31, rfl, rfl, by decide +kernel⟩
theorem fo_1_20 : FldO 1 20 "ThirdEbbModel" := ⟨RX1, TX1, 31, rfl, rfl⟩
theorem fw_1_21 : FldW 1 21 true (.array .int) := ⟨RX1, TX1, 31, rfl, rfl, by decide +kernel⟩
theorem fo_1_21 : FldO 1 21 "ThirdEbbModel" := ⟨RX1, TX1, 31, rfl, rfl⟩
theorem fw_1_22 : FldW 1 22 true (.array .int) := ⟨RX1, TX1, 31, rfl, rfl, by decide +kernel⟩
theorem fo_1_22 : FldO 1 22 "ThirdEbbModel" := ⟨RX1, TX1, 31, rfl, rfl⟩
theorem fw_1_23 : FldW 1 23 true (.array .int) := ⟨RX1, TX1, 31, rfl, rfl, by decide +kernel⟩
theorem fo_1_23 : FldO 1 23 "ThirdEbbModel" := ⟨RX1, TX1, 31, rfl, rfl⟩
theorem fw_1_24 : FldW 1 24 true (.array .int) := ⟨RX1, TX1, 31, rfl, rfl, by decide +kernel⟩
theorem fo_1_24 : FldO 1 24 "ThirdEbbModel" := ⟨RX1, TX1, 31, rfl, rfl⟩
theorem fw_1_25 : FldW 1 25 true (.array .int) := ⟨RX1, TX1, 31, rfl, rfl, by decide +kernel⟩
theorem fo_1_25 : FldO 1 25 "ThirdEbbModel" := ⟨RX1, TX1, 31, rfl, rfl⟩
theorem fw_1_26 : FldW 1 26 false (.int) := ⟨RX1, TX1, 31, rfl, rfl, by decide +kernel⟩
theorem fw_1_27 : FldW 1 27 true (.array .int) := ⟨RX1, TX1, 31, rfl, rfl, by decide +kernel⟩
theorem fo_1_27 : FldO 1 27 "ThirdEbbModel" := ⟨RX1, TX1, 31, rfl, rfl⟩
theorem fw_1_28 : FldW 1 28 true (.array .int) := ⟨RX1, TX1, 31, rfl, rfl, by decide +kernel⟩
theorem fo_1_28 : FldO 1 28 "ThirdEbbModel" := ⟨RX1, TX1, 31, rfl, rfl⟩
theorem fw_1_29 : FldW 1 29 true (.array .int) := ⟨RX1, TX1, 31, rfl, rfl, by decide +kernel⟩
theorem fo_1_29 : FldO 1 29 "ThirdEbbModel" := ⟨RX1, TX1, 31, rfl, rfl⟩
theorem fw_1_30 : FldW 1 30 true (.array .int) := ⟨RX1, TX1, 31, rfl, rfl, by decide +kernel⟩
theorem fo_1_30 : FldO 1 30 "ThirdEbbModel" := ⟨RX1, TX1, 31, rfl, rfl⟩
theorem dv_1 : DefV 1 31 [.int 0, .int 0, .null, .null, .null, .int 0, .int 0, .null, .null, .null, .int 0, .int 0, .int 0, .null, .null, .null, .int 0, .null, .null, .null, .null, .null, .null, .null, .null, .null, .int 0, .null, .null, .null, .null] := ⟨RX1, TX1, rfl, fun j hj ty h => by
  have h2 := tyX1_ok j hj
  rw [h] at h2
  cases h2
  match j, hj with | 0, _ => rfl | 1, _ => rfl | 2, _ => rfl | 3, _ => rfl | 4, _ => rfl | 5, _ => rfl | 6, _ => rfl | 7, _ => rfl | 8, _ => rfl | 9, _ => rfl | 10, _ => rfl | 11, _ => rfl | 12, _ => rfl | 13, _ => rfl | 14, _ => rfl | 15, _ => rfl | 16, _ => rfl | 17, _ => rfl | 18, _ => rfl | 19, _ => rfl | 20, _ => rfl | 21, _ => rfl | 22, _ => rfl | 23, _ => rfl | 24, _ => rfl | 25, _ => rfl | 26, _ => rfl | 27, _ => rfl | 28, _ => rfl | 29, _ => rfl | 30, _ => rfl | j + 31, hj => exact absurd hj (by omega)⟩
theorem cw_2 : ClsW 2 := ⟨RX5, TX5, 3, tyX5, rfl, in_X5, tyX5_ok, by decide +kernel⟩
theorem fw_2_0 : FldW 2 0 true (.int) := ⟨RX5, TX5, 3, rfl, rfl, by decide +kernel⟩
theorem fo_2_0 : FldO 2 0 "ThirdEbb$Moon" := ⟨RX5, TX5, 3, rfl, rfl⟩
theorem fw_2_1 : FldW 2 1 true (.int) := ⟨RX5, TX5, 3, rfl, rfl, by decide +kernel⟩
theorem fo_2_1 : FldO 2 1 "ThirdEbb$Moon" := ⟨RX5, TX5, 3, rfl, rfl⟩
theorem fw_2_2 : FldW 2 2 true (.int) := ⟨RX5, TX5, 3, rfl, rfl, by decide +kernel⟩
theorem fo_2_2 : FldO 2 2 "ThirdEbb$Moon" := ⟨RX5, TX5, 3, rfl, rfl⟩
theorem dv_2 : DefV 2 3 [.int 0, .int 0, .int 0] := ⟨RX5, TX5, rfl, fun j hj ty h => by
  have h2 := tyX5_ok j hj
  rw [h] at h2
  cases h2
  match j, hj with | 0, _ => rfl | 1, _ => rfl | 2, _ => rfl | j + 3, hj => exact absurd hj (by omega)⟩
theorem cw_3 : ClsW 3 := ⟨RX6, TX6, 7, tyX6, rfl, in_X6, tyX6_ok, by decide +kernel⟩
theorem fw_3_0 : FldW 3 0 true (.int) := ⟨RX6, TX6, 7, rfl, rfl, by decide +kernel⟩
theorem fo_3_0 : FldO 3 0 "ThirdEbb$Soft" := ⟨RX6, TX6, 7, rfl, rfl⟩
theorem fw_3_1 : FldW 3 1 true (.int) := ⟨RX6, TX6, 7, rfl, rfl, by decide +kernel⟩
theorem fo_3_1 : FldO 3 1 "ThirdEbb$Soft" := ⟨RX6, TX6, 7, rfl, rfl⟩
theorem fw_3_2 : FldW 3 2 true (.int) := ⟨RX6, TX6, 7, rfl, rfl, by decide +kernel⟩
theorem fo_3_2 : FldO 3 2 "ThirdEbb$Soft" := ⟨RX6, TX6, 7, rfl, rfl⟩
theorem fw_3_3 : FldW 3 3 true (.int) := ⟨RX6, TX6, 7, rfl, rfl, by decide +kernel⟩
theorem fo_3_3 : FldO 3 3 "ThirdEbb$Soft" := ⟨RX6, TX6, 7, rfl, rfl⟩
theorem fw_3_4 : FldW 3 4 true (.int) := ⟨RX6, TX6, 7, rfl, rfl, by decide +kernel⟩
theorem fo_3_4 : FldO 3 4 "ThirdEbb$Soft" := ⟨RX6, TX6, 7, rfl, rfl⟩
theorem fw_3_5 : FldW 3 5 false (.int) := ⟨RX6, TX6, 7, rfl, rfl, by decide +kernel⟩
theorem fw_3_6 : FldW 3 6 true (.object "ThirdEbb") := ⟨RX6, TX6, 7, rfl, rfl, by decide +kernel⟩
theorem fo_3_6 : FldO 3 6 "ThirdEbb$Soft" := ⟨RX6, TX6, 7, rfl, rfl⟩
theorem dv_3 : DefV 3 7 [.int 0, .int 0, .int 0, .int 0, .int 0, .int 0, .null] := ⟨RX6, TX6, rfl, fun j hj ty h => by
  have h2 := tyX6_ok j hj
  rw [h] at h2
  cases h2
  match j, hj with | 0, _ => rfl | 1, _ => rfl | 2, _ => rfl | 3, _ => rfl | 4, _ => rfl | 5, _ => rfl | 6, _ => rfl | j + 7, hj => exact absurd hj (by omega)⟩
theorem cw_4 : ClsW 4 := ⟨RX7, TX7, 8, tyX7, rfl, in_X7, tyX7_ok, by decide +kernel⟩
theorem fw_4_0 : FldW 4 0 true (.int) := ⟨RX7, TX7, 8, rfl, rfl, by decide +kernel⟩
theorem fo_4_0 : FldO 4 0 "ThirdEbb$Soft" := ⟨RX7, TX7, 8, rfl, rfl⟩
theorem fw_4_1 : FldW 4 1 true (.int) := ⟨RX7, TX7, 8, rfl, rfl, by decide +kernel⟩
theorem fo_4_1 : FldO 4 1 "ThirdEbb$Soft" := ⟨RX7, TX7, 8, rfl, rfl⟩
theorem fw_4_2 : FldW 4 2 true (.int) := ⟨RX7, TX7, 8, rfl, rfl, by decide +kernel⟩
theorem fo_4_2 : FldO 4 2 "ThirdEbb$Soft" := ⟨RX7, TX7, 8, rfl, rfl⟩
theorem fw_4_3 : FldW 4 3 true (.int) := ⟨RX7, TX7, 8, rfl, rfl, by decide +kernel⟩
theorem fo_4_3 : FldO 4 3 "ThirdEbb$Soft" := ⟨RX7, TX7, 8, rfl, rfl⟩
theorem fw_4_4 : FldW 4 4 true (.int) := ⟨RX7, TX7, 8, rfl, rfl, by decide +kernel⟩
theorem fo_4_4 : FldO 4 4 "ThirdEbb$Soft" := ⟨RX7, TX7, 8, rfl, rfl⟩
theorem fw_4_5 : FldW 4 5 false (.int) := ⟨RX7, TX7, 8, rfl, rfl, by decide +kernel⟩
theorem fw_4_6 : FldW 4 6 true (.object "ThirdEbb") := ⟨RX7, TX7, 8, rfl, rfl, by decide +kernel⟩
theorem fo_4_6 : FldO 4 6 "ThirdEbb$Soft" := ⟨RX7, TX7, 8, rfl, rfl⟩
theorem fw_4_7 : FldW 4 7 true (.object "ThirdEbb") := ⟨RX7, TX7, 8, rfl, rfl, by decide +kernel⟩
theorem fo_4_7 : FldO 4 7 "ThirdEbb$Bridged" := ⟨RX7, TX7, 8, rfl, rfl⟩
theorem dv_4 : DefV 4 8 [.int 0, .int 0, .int 0, .int 0, .int 0, .int 0, .null, .null] := ⟨RX7, TX7, rfl, fun j hj ty h => by
  have h2 := tyX7_ok j hj
  rw [h] at h2
  cases h2
  match j, hj with | 0, _ => rfl | 1, _ => rfl | 2, _ => rfl | 3, _ => rfl | 4, _ => rfl | 5, _ => rfl | 6, _ => rfl | 7, _ => rfl | j + 8, hj => exact absurd hj (by omega)⟩
theorem cw_5 : ClsW 5 := ⟨RX8, TX8, 9, tyX8, rfl, in_X8, tyX8_ok, by decide +kernel⟩
theorem fw_5_0 : FldW 5 0 true (.int) := ⟨RX8, TX8, 9, rfl, rfl, by decide +kernel⟩
theorem fo_5_0 : FldO 5 0 "ThirdEbb$Soft" := ⟨RX8, TX8, 9, rfl, rfl⟩
theorem fw_5_1 : FldW 5 1 true (.int) := ⟨RX8, TX8, 9, rfl, rfl, by decide +kernel⟩
theorem fo_5_1 : FldO 5 1 "ThirdEbb$Soft" := ⟨RX8, TX8, 9, rfl, rfl⟩
theorem fw_5_2 : FldW 5 2 true (.int) := ⟨RX8, TX8, 9, rfl, rfl, by decide +kernel⟩
theorem fo_5_2 : FldO 5 2 "ThirdEbb$Soft" := ⟨RX8, TX8, 9, rfl, rfl⟩
theorem fw_5_3 : FldW 5 3 true (.int) := ⟨RX8, TX8, 9, rfl, rfl, by decide +kernel⟩
theorem fo_5_3 : FldO 5 3 "ThirdEbb$Soft" := ⟨RX8, TX8, 9, rfl, rfl⟩
theorem fw_5_4 : FldW 5 4 true (.int) := ⟨RX8, TX8, 9, rfl, rfl, by decide +kernel⟩
theorem fo_5_4 : FldO 5 4 "ThirdEbb$Soft" := ⟨RX8, TX8, 9, rfl, rfl⟩
theorem fw_5_5 : FldW 5 5 false (.int) := ⟨RX8, TX8, 9, rfl, rfl, by decide +kernel⟩
theorem fw_5_6 : FldW 5 6 true (.object "ThirdEbb") := ⟨RX8, TX8, 9, rfl, rfl, by decide +kernel⟩
theorem fo_5_6 : FldO 5 6 "ThirdEbb$Soft" := ⟨RX8, TX8, 9, rfl, rfl⟩
theorem fw_5_7 : FldW 5 7 true (.object "ThirdEbb") := ⟨RX8, TX8, 9, rfl, rfl, by decide +kernel⟩
theorem fo_5_7 : FldO 5 7 "ThirdEbb$Bridged" := ⟨RX8, TX8, 9, rfl, rfl⟩
theorem fw_5_8 : FldW 5 8 true (.object "ThirdEbb") := ⟨RX8, TX8, 9, rfl, rfl, by decide +kernel⟩
theorem fo_5_8 : FldO 5 8 "ThirdEbb$Shifting" := ⟨RX8, TX8, 9, rfl, rfl⟩
theorem dv_5 : DefV 5 9 [.int 0, .int 0, .int 0, .int 0, .int 0, .int 0, .null, .null, .null] := ⟨RX8, TX8, rfl, fun j hj ty h => by
  have h2 := tyX8_ok j hj
  rw [h] at h2
  cases h2
  match j, hj with | 0, _ => rfl | 1, _ => rfl | 2, _ => rfl | 3, _ => rfl | 4, _ => rfl | 5, _ => rfl | 6, _ => rfl | 7, _ => rfl | 8, _ => rfl | j + 9, hj => exact absurd hj (by omega)⟩
theorem cw_6 : ClsW 6 := ⟨RX11, TX11, 1, tyX11, rfl, in_X11, tyX11_ok, by decide +kernel⟩
theorem fw_6_0 : FldW 6 0 true (.object "java/lang/Object") := ⟨RX11, TX11, 1, rfl, rfl, by decide +kernel⟩
theorem fo_6_0 : FldO 6 0 "ThirdEbb$Sheet" := ⟨RX11, TX11, 1, rfl, rfl⟩
theorem dv_6 : DefV 6 1 [.null] := ⟨RX11, TX11, rfl, fun j hj ty h => by
  have h2 := tyX11_ok j hj
  rw [h] at h2
  cases h2
  match j, hj with | 0, _ => rfl | j + 1, hj => exact absurd hj (by omega)⟩
theorem cw_7 : ClsW 7 := ⟨RJ2, TJ2, 3, tyJ2, rfl, in_J2, tyJ2_ok, by decide +kernel⟩
theorem fw_7_0 : FldW 7 0 false (.int) := ⟨RJ2, TJ2, 3, rfl, rfl, by decide +kernel⟩
theorem fw_7_1 : FldW 7 1 false (.array (.object "java/lang/Object")) := ⟨RJ2, TJ2, 3, rfl, rfl, by decide +kernel⟩
theorem fw_7_2 : FldW 7 2 false (.int) := ⟨RJ2, TJ2, 3, rfl, rfl, by decide +kernel⟩
theorem dv_7 : DefV 7 3 [.int 0, .null, .int 0] := ⟨RJ2, TJ2, rfl, fun j hj ty h => by
  have h2 := tyJ2_ok j hj
  rw [h] at h2
  cases h2
  match j, hj with | 0, _ => rfl | 1, _ => rfl | 2, _ => rfl | j + 3, hj => exact absurd hj (by omega)⟩
theorem cw_8 : ClsW 8 := ⟨RX4, TX4, 7, tyX4, rfl, in_X4, tyX4_ok, by decide +kernel⟩
theorem fw_8_0 : FldW 8 0 true (.int) := ⟨RX4, TX4, 7, rfl, rfl, by decide +kernel⟩
theorem fo_8_0 : FldO 8 0 "ThirdEbb$Looking" := ⟨RX4, TX4, 7, rfl, rfl⟩
theorem fw_8_1 : FldW 8 1 true (.int) := ⟨RX4, TX4, 7, rfl, rfl, by decide +kernel⟩
theorem fo_8_1 : FldO 8 1 "ThirdEbb$Looking" := ⟨RX4, TX4, 7, rfl, rfl⟩
theorem fw_8_2 : FldW 8 2 true (.int) := ⟨RX4, TX4, 7, rfl, rfl, by decide +kernel⟩
theorem fo_8_2 : FldO 8 2 "ThirdEbb$Looking" := ⟨RX4, TX4, 7, rfl, rfl⟩
theorem fw_8_3 : FldW 8 3 true (.int) := ⟨RX4, TX4, 7, rfl, rfl, by decide +kernel⟩
theorem fo_8_3 : FldO 8 3 "ThirdEbb$Looking" := ⟨RX4, TX4, 7, rfl, rfl⟩
theorem fw_8_4 : FldW 8 4 true (.object "ThirdEbb") := ⟨RX4, TX4, 7, rfl, rfl, by decide +kernel⟩
theorem fo_8_4 : FldO 8 4 "ThirdEbb$Looking" := ⟨RX4, TX4, 7, rfl, rfl⟩
theorem fw_8_5 : FldW 8 5 true (.object "ThirdEbb") := ⟨RX4, TX4, 7, rfl, rfl, by decide +kernel⟩
theorem fo_8_5 : FldO 8 5 "ThirdEbb$Act" := ⟨RX4, TX4, 7, rfl, rfl⟩
theorem fw_8_6 : FldW 8 6 true (.object "ThirdEbb") := ⟨RX4, TX4, 7, rfl, rfl, by decide +kernel⟩
theorem fo_8_6 : FldO 8 6 "ThirdEbb$Filling" := ⟨RX4, TX4, 7, rfl, rfl⟩
theorem dv_8 : DefV 8 7 [.int 0, .int 0, .int 0, .int 0, .null, .null, .null] := ⟨RX4, TX4, rfl, fun j hj ty h => by
  have h2 := tyX4_ok j hj
  rw [h] at h2
  cases h2
  match j, hj with | 0, _ => rfl | 1, _ => rfl | 2, _ => rfl | 3, _ => rfl | 4, _ => rfl | 5, _ => rfl | 6, _ => rfl | j + 7, hj => exact absurd hj (by omega)⟩
theorem cw_9 : ClsW 9 := ⟨RX9, TX9, 8, tyX9, rfl, in_X9, tyX9_ok, by decide +kernel⟩
theorem fw_9_0 : FldW 9 0 true (.int) := ⟨RX9, TX9, 8, rfl, rfl, by decide +kernel⟩
theorem fo_9_0 : FldO 9 0 "ThirdEbb$Looking" := ⟨RX9, TX9, 8, rfl, rfl⟩
theorem fw_9_1 : FldW 9 1 true (.int) := ⟨RX9, TX9, 8, rfl, rfl, by decide +kernel⟩
theorem fo_9_1 : FldO 9 1 "ThirdEbb$Looking" := ⟨RX9, TX9, 8, rfl, rfl⟩
theorem fw_9_2 : FldW 9 2 true (.int) := ⟨RX9, TX9, 8, rfl, rfl, by decide +kernel⟩
theorem fo_9_2 : FldO 9 2 "ThirdEbb$Looking" := ⟨RX9, TX9, 8, rfl, rfl⟩
theorem fw_9_3 : FldW 9 3 true (.int) := ⟨RX9, TX9, 8, rfl, rfl, by decide +kernel⟩
theorem fo_9_3 : FldO 9 3 "ThirdEbb$Looking" := ⟨RX9, TX9, 8, rfl, rfl⟩
theorem fw_9_4 : FldW 9 4 true (.object "ThirdEbb") := ⟨RX9, TX9, 8, rfl, rfl, by decide +kernel⟩
theorem fo_9_4 : FldO 9 4 "ThirdEbb$Looking" := ⟨RX9, TX9, 8, rfl, rfl⟩
theorem fw_9_5 : FldW 9 5 true (.object "ThirdEbb") := ⟨RX9, TX9, 8, rfl, rfl, by decide +kernel⟩
theorem fo_9_5 : FldO 9 5 "ThirdEbb$Act" := ⟨RX9, TX9, 8, rfl, rfl⟩
theorem fw_9_6 : FldW 9 6 true (.int) := ⟨RX9, TX9, 8, rfl, rfl, by decide +kernel⟩
theorem fo_9_6 : FldO 9 6 "ThirdEbb$Checking" := ⟨RX9, TX9, 8, rfl, rfl⟩
theorem fw_9_7 : FldW 9 7 true (.object "ThirdEbb") := ⟨RX9, TX9, 8, rfl, rfl, by decide +kernel⟩
theorem fo_9_7 : FldO 9 7 "ThirdEbb$Checking" := ⟨RX9, TX9, 8, rfl, rfl⟩
theorem dv_9 : DefV 9 8 [.int 0, .int 0, .int 0, .int 0, .null, .null, .int 0, .null] := ⟨RX9, TX9, rfl, fun j hj ty h => by
  have h2 := tyX9_ok j hj
  rw [h] at h2
  cases h2
  match j, hj with | 0, _ => rfl | 1, _ => rfl | 2, _ => rfl | 3, _ => rfl | 4, _ => rfl | 5, _ => rfl | 6, _ => rfl | 7, _ => rfl | j + 8, hj => exact absurd hj (by omega)⟩
theorem cw_10 : ClsW 10 := ⟨RX10, TX10, 7, tyX10, rfl, in_X10, tyX10_ok, by decide +kernel⟩
theorem fw_10_0 : FldW 10 0 true (.int) := ⟨RX10, TX10, 7, rfl, rfl, by decide +kernel⟩
theorem fo_10_0 : FldO 10 0 "ThirdEbb$Looking" := ⟨RX10, TX10, 7, rfl, rfl⟩
theorem fw_10_1 : FldW 10 1 true (.int) := ⟨RX10, TX10, 7, rfl, rfl, by decide +kernel⟩
theorem fo_10_1 : FldO 10 1 "ThirdEbb$Looking" := ⟨RX10, TX10, 7, rfl, rfl⟩
theorem fw_10_2 : FldW 10 2 true (.int) := ⟨RX10, TX10, 7, rfl, rfl, by decide +kernel⟩
theorem fo_10_2 : FldO 10 2 "ThirdEbb$Looking" := ⟨RX10, TX10, 7, rfl, rfl⟩
theorem fw_10_3 : FldW 10 3 true (.int) := ⟨RX10, TX10, 7, rfl, rfl, by decide +kernel⟩
theorem fo_10_3 : FldO 10 3 "ThirdEbb$Looking" := ⟨RX10, TX10, 7, rfl, rfl⟩
theorem fw_10_4 : FldW 10 4 true (.object "ThirdEbb") := ⟨RX10, TX10, 7, rfl, rfl, by decide +kernel⟩
theorem fo_10_4 : FldO 10 4 "ThirdEbb$Looking" := ⟨RX10, TX10, 7, rfl, rfl⟩
theorem fw_10_5 : FldW 10 5 true (.object "ThirdEbb") := ⟨RX10, TX10, 7, rfl, rfl, by decide +kernel⟩
theorem fo_10_5 : FldO 10 5 "ThirdEbb$Act" := ⟨RX10, TX10, 7, rfl, rfl⟩
theorem fw_10_6 : FldW 10 6 true (.object "ThirdEbb") := ⟨RX10, TX10, 7, rfl, rfl, by decide +kernel⟩
theorem fo_10_6 : FldO 10 6 "ThirdEbb$Booking" := ⟨RX10, TX10, 7, rfl, rfl⟩
theorem dv_10 : DefV 10 7 [.int 0, .int 0, .int 0, .int 0, .null, .null, .null] := ⟨RX10, TX10, rfl, fun j hj ty h => by
  have h2 := tyX10_ok j hj
  rw [h] at h2
  cases h2
  match j, hj with | 0, _ => rfl | 1, _ => rfl | 2, _ => rfl | 3, _ => rfl | 4, _ => rfl | 5, _ => rfl | 6, _ => rfl | j + 7, hj => exact absurd hj (by omega)⟩
theorem cw_11 : ClsW 11 := ⟨RX12, TX12, 7, tyX12, rfl, in_X12, tyX12_ok, by decide +kernel⟩
theorem fw_11_0 : FldW 11 0 true (.object "ThirdEbb") := ⟨RX12, TX12, 7, rfl, rfl, by decide +kernel⟩
theorem fo_11_0 : FldO 11 0 "ThirdEbb$Act" := ⟨RX12, TX12, 7, rfl, rfl⟩
theorem fw_11_1 : FldW 11 1 true (.int) := ⟨RX12, TX12, 7, rfl, rfl, by decide +kernel⟩
theorem fo_11_1 : FldO 11 1 "ThirdEbb$Copying" := ⟨RX12, TX12, 7, rfl, rfl⟩
theorem fw_11_2 : FldW 11 2 true (.int) := ⟨RX12, TX12, 7, rfl, rfl, by decide +kernel⟩
theorem fo_11_2 : FldO 11 2 "ThirdEbb$Copying" := ⟨RX12, TX12, 7, rfl, rfl⟩
theorem fw_11_3 : FldW 11 3 true (.int) := ⟨RX12, TX12, 7, rfl, rfl, by decide +kernel⟩
theorem fo_11_3 : FldO 11 3 "ThirdEbb$Copying" := ⟨RX12, TX12, 7, rfl, rfl⟩
theorem fw_11_4 : FldW 11 4 true (.int) := ⟨RX12, TX12, 7, rfl, rfl, by decide +kernel⟩
theorem fo_11_4 : FldO 11 4 "ThirdEbb$Copying" := ⟨RX12, TX12, 7, rfl, rfl⟩
theorem fw_11_5 : FldW 11 5 true (.int) := ⟨RX12, TX12, 7, rfl, rfl, by decide +kernel⟩
theorem fo_11_5 : FldO 11 5 "ThirdEbb$Copying" := ⟨RX12, TX12, 7, rfl, rfl⟩
theorem fw_11_6 : FldW 11 6 true (.object "ThirdEbb") := ⟨RX12, TX12, 7, rfl, rfl, by decide +kernel⟩
theorem fo_11_6 : FldO 11 6 "ThirdEbb$Copying" := ⟨RX12, TX12, 7, rfl, rfl⟩
theorem dv_11 : DefV 11 7 [.null, .int 0, .int 0, .int 0, .int 0, .int 0, .null] := ⟨RX12, TX12, rfl, fun j hj ty h => by
  have h2 := tyX12_ok j hj
  rw [h] at h2
  cases h2
  match j, hj with | 0, _ => rfl | 1, _ => rfl | 2, _ => rfl | 3, _ => rfl | 4, _ => rfl | 5, _ => rfl | 6, _ => rfl | j + 7, hj => exact absurd hj (by omega)⟩
theorem cw_12 : ClsW 12 := ⟨RX13, TX13, 4, tyX13, rfl, in_X13, tyX13_ok, by decide +kernel⟩
theorem fw_12_0 : FldW 12 0 true (.object "ThirdEbb") := ⟨RX13, TX13, 4, rfl, rfl, by decide +kernel⟩
theorem fo_12_0 : FldO 12 0 "ThirdEbb$Act" := ⟨RX13, TX13, 4, rfl, rfl⟩
theorem fw_12_1 : FldW 12 1 true (.object "ThirdEbb$Soft") := ⟨RX13, TX13, 4, rfl, rfl, by decide +kernel⟩
theorem fo_12_1 : FldO 12 1 "ThirdEbb$Taking" := ⟨RX13, TX13, 4, rfl, rfl⟩
theorem fw_12_2 : FldW 12 2 true (.int) := ⟨RX13, TX13, 4, rfl, rfl, by decide +kernel⟩
theorem fo_12_2 : FldO 12 2 "ThirdEbb$Taking" := ⟨RX13, TX13, 4, rfl, rfl⟩
theorem fw_12_3 : FldW 12 3 true (.object "ThirdEbb") := ⟨RX13, TX13, 4, rfl, rfl, by decide +kernel⟩
theorem fo_12_3 : FldO 12 3 "ThirdEbb$Taking" := ⟨RX13, TX13, 4, rfl, rfl⟩
theorem dv_12 : DefV 12 4 [.null, .null, .int 0, .null] := ⟨RX13, TX13, rfl, fun j hj ty h => by
  have h2 := tyX13_ok j hj
  rw [h] at h2
  cases h2
  match j, hj with | 0, _ => rfl | 1, _ => rfl | 2, _ => rfl | 3, _ => rfl | j + 4, hj => exact absurd hj (by omega)⟩
theorem sN_X0_21 : SiteN "ThirdEbb" 21 7 3 := ⟨RJ2, TJ2, tyJ2, rfl, in_J2, tyJ2_ok, q91, q92, q53⟩
theorem sN_X0_55 : SiteN "ThirdEbb" 55 6 1 := ⟨RX11, TX11, tyX11, rfl, in_X11, tyX11_ok, q119, q644, q80⟩
theorem sN_X0_92 : SiteN "ThirdEbb" 92 2 3 := ⟨RX5, TX5, tyX5, rfl, in_X5, tyX5_ok, q207, q891, q71⟩
theorem sN_X0_147 : SiteN "ThirdEbb" 147 3 7 := ⟨RX6, TX6, tyX6, rfl, in_X6, tyX6_ok, q258, q259, q75⟩
theorem sN_X0_152 : SiteN "ThirdEbb" 152 4 8 := ⟨RX7, TX7, tyX7, rfl, in_X7, tyX7_ok, q295, q296, q76⟩
theorem sN_X0_155 : SiteN "ThirdEbb" 155 5 9 := ⟨RX8, TX8, tyX8, rfl, in_X8, tyX8_ok, q312, q313, q77⟩
theorem sN_X0_318 : SiteN "ThirdEbb" 318 8 7 := ⟨RX4, TX4, tyX4, rfl, in_X4, tyX4_ok, q753, q754, q57⟩
theorem sN_X0_327 : SiteN "ThirdEbb" 327 9 8 := ⟨RX9, TX9, tyX9, rfl, in_X9, tyX9_ok, q955, q956, q78⟩
theorem sN_X0_330 : SiteN "ThirdEbb" 330 10 7 := ⟨RX10, TX10, tyX10, rfl, in_X10, tyX10_ok, q978, q979, q79⟩
theorem sN_X0_333 : SiteN "ThirdEbb" 333 11 7 := ⟨RX12, TX12, tyX12, rfl, in_X12, tyX12_ok, q998, q999, q81⟩
theorem sN_X0_345 : SiteN "ThirdEbb" 345 12 4 := ⟨RX13, TX13, tyX13, rfl, in_X13, tyX13_ok, q1111, q1112, q82⟩
theorem sN_L_7 : SiteN "ThirdEbbLaw" 7 0 14 := ⟨RX0, TX0, tyX0, rfl, in_X0, tyX0_ok, q83, q84, q50⟩
theorem sN_L_10 : SiteN "ThirdEbbLaw" 10 1 31 := ⟨RX1, TX1, tyX1, rfl, in_X1, tyX1_ok, q1143, q1144, q54⟩
