/-! METHODS AND LINKS: printed by gen_links.py out of the claim's names -/
set_option maxRecDepth 100000
def M_J0_init : z_M := (yJ0_init, cJ0_init, 1, none, [])
def M_J1_init : z_M := (yJ1_init, cJ1_init, 1, none, [])
def M_J10_init : z_M := (yJ10_init, cJ10_init, 1, none, [])
def M_J10_init_2 : z_M := (yJ10_init_2, cJ10_init_2, 2, none, [])
def M_J11_init : z_M := (yJ11_init, cJ11_init, 1, none, [])
def M_J11_init_2 : z_M := (yJ11_init_2, cJ11_init_2, 2, none, [])
def M_J12_newLength : z_M := (yJ12_newLength, cJ12_newLength, 4, (some .int), [])
def M_J12_hugeLength : z_M := (yJ12_hugeLength, cJ12_hugeLength, 3, (some .int), [])
def M_J13_copyOf : z_M := (yJ13_copyOf, cJ13_copyOf, 2, (some (.array (.object "java/lang/Object"))), [])
def M_J13_copyOf_2 : z_M := (yJ13_copyOf_2, cJ13_copyOf_2, 4, (some (.array (.object "java/lang/Object"))), [])
def M_J14_init : z_M := (yJ14_init, cJ14_init, 2, none, [])
def M_J15_init : z_M := (yJ15_init, cJ15_init, 1, none, [])
def M_J16_init : z_M := (yJ16_init, cJ16_init, 2, none, [])
def M_J17_init : z_M := (yJ17_init, cJ17_init, 2, none, [])
def M_J18_init : z_M := (yJ18_init, cJ18_init, 2, none, [])
def M_J19_init : z_M := (yJ19_init, cJ19_init, 2, none, [])
def M_J2_init : z_M := (yJ2_init, cJ2_init, 1, none, [])
def M_J2_size : z_M := (yJ2_size, cJ2_size, 1, (some .int), [])
def M_J2_get : z_M := (yJ2_get, cJ2_get, 2, (some (.object "java/lang/Object")), [])
def M_J2_elementData : z_M := (yJ2_elementData, cJ2_elementData, 2, (some (.object "java/lang/Object")), [])
def M_J2_add : z_M := (yJ2_add, cJ2_add, 2, (some .boolean), [])
def M_J2_add_2 : z_M := (yJ2_add_2, cJ2_add_2, 4, none, [])
def M_J2_grow : z_M := (yJ2_grow, cJ2_grow, 1, (some (.array (.object "java/lang/Object"))), [])
def M_J2_grow_2 : z_M := (yJ2_grow_2, cJ2_grow_2, 4, (some (.array (.object "java/lang/Object"))), [])
def M_J20_init : z_M := (yJ20_init, cJ20_init, 1, none, [])
def M_J3_min : z_M := (yJ3_min, cJ3_min, 2, (some .int), [])
def M_J3_max : z_M := (yJ3_max, cJ3_max, 2, (some .int), [])
def M_J3_abs : z_M := (yJ3_abs, cJ3_abs, 1, (some .int), [])
def M_J4_checkIndex : z_M := (yJ4_checkIndex, cJ4_checkIndex, 2, (some .int), [])
def M_J5_checkIndex : z_M := (yJ5_checkIndex, cJ5_checkIndex, 3, (some .int), [])
def M_J6_length : z_M := (yJ6_length, cJ6_length, 1, (some .int), [])
def M_J6_coder : z_M := (yJ6_coder, cJ6_coder, 1, (some .byte), [])
def M_J6_charAt : z_M := (yJ6_charAt, cJ6_charAt, 2, (some .char), [])
def M_J6_isLatin1 : z_M := (yJ6_isLatin1, cJ6_isLatin1, 1, (some .boolean), [])
def M_J6_checkIndex : z_M := (yJ6_checkIndex, cJ6_checkIndex, 2, none, [])
def M_J7_charAt : z_M := (yJ7_charAt, cJ7_charAt, 2, (some .char), [])
def M_J8_charAt : z_M := (yJ8_charAt, cJ8_charAt, 2, (some .char), [])
def M_J8_checkIndex : z_M := (yJ8_checkIndex, cJ8_checkIndex, 2, none, [])
def M_J8_length : z_M := (yJ8_length, cJ8_length, 1, (some .int), [])
def M_J8_getChar : z_M := (yJ8_getChar, cJ8_getChar, 2, (some .char), [])
def M_J9_init : z_M := (yJ9_init, cJ9_init, 1, none, [])
def M_J9_init_2 : z_M := (yJ9_init_2, cJ9_init_2, 2, none, [])
def M_X0_init : z_M := (yX0_init, cX0_init, 2, none, [])
def M_X0_lift : z_M := (yX0_lift, cX0_lift, 6, (some .int), [])
def M_X0_in : z_M := (yX0_in, cX0_in, 3, (some .boolean), [])
def M_X0_isMile : z_M := (yX0_isMile, cX0_isMile, 1, (some .boolean), [])
def M_X0_liftOf : z_M := (yX0_liftOf, cX0_liftOf, 4, (some (.object "SomebodysLift$Lift")), [])
def M_X0_of : z_M := (yX0_of, cX0_of, 3, (some .int), [])
def M_X0_isLift : z_M := (yX0_isLift, cX0_isLift, 2, (some .boolean), [])
def M_X0_gainOf : z_M := (yX0_gainOf, cX0_gainOf, 3, (some .int), [])
def M_X0_climbOf : z_M := (yX0_climbOf, cX0_climbOf, 3, (some .int), [])
def M_X0_pull : z_M := (yX0_pull, cX0_pull, 4, (some .int), [])
def M_X0_row : z_M := (yX0_row, cX0_row, 5, (some .int), [])
def M_X0_feed : z_M := (yX0_feed, cX0_feed, 2, (some .int), [])
def M_X0_air : z_M := (yX0_air, cX0_air, 3, (some .int), [(22, 52, 53, 213)])
def M_X0_home : z_M := (yX0_home, cX0_home, 3, (some .int), [])
def M_X0_height : z_M := (yX0_height, cX0_height, 3, (some .int), [])
def M_X0_told : z_M := (yX0_told, cX0_told, 2, (some .int), [])
def M_X0_enter : z_M := (yX0_enter, cX0_enter, 2, (some .int), [])
def M_X0_turn : z_M := (yX0_turn, cX0_turn, 2, (some .int), [])
def M_X0_turns : z_M := (yX0_turns, cX0_turns, 5, none, [])
def M_X0_glide : z_M := (yX0_glide, cX0_glide, 3, (some .int), [])
def M_X0_isGlide : z_M := (yX0_isGlide, cX0_isGlide, 2, (some .boolean), [])
def M_X0_isPace : z_M := (yX0_isPace, cX0_isPace, 1, (some .boolean), [])
def M_X0_up : z_M := (yX0_up, cX0_up, 3, (some .int), [])
def M_X0_top : z_M := (yX0_top, cX0_top, 6, (some .int), [])
def M_X0_arrives : z_M := (yX0_arrives, cX0_arrives, 3, (some .int), [])
def M_X0_outed : z_M := (yX0_outed, cX0_outed, 3, (some .int), [])
def M_X0_reach : z_M := (yX0_reach, cX0_reach, 4, (some .int), [])
def M_X0_next : z_M := (yX0_next, cX0_next, 6, (some .int), [])
def M_X0_lowest : z_M := (yX0_lowest, cX0_lowest, 4, (some .int), [])
def M_X0_by : z_M := (yX0_by, cX0_by, 5, (some .int), [])
def M_X0_minutesBy : z_M := (yX0_minutesBy, cX0_minutesBy, 3, (some .int), [])
def M_X0_climbsTill : z_M := (yX0_climbsTill, cX0_climbsTill, 6, (some .boolean), [])
def M_X0_straight : z_M := (yX0_straight, cX0_straight, 2, (some .int), [])
def M_X0_minutesStraight : z_M := (yX0_minutesStraight, cX0_minutesStraight, 2, (some .int), [])
def M_X0_best : z_M := (yX0_best, cX0_best, 3, (some .int), [])
def M_X0_fewestBut : z_M := (yX0_fewestBut, cX0_fewestBut, 6, (some .int), [])
def M_X0_two : z_M := (yX0_two, cX0_two, 8, (some .int), [])
def M_X0_minutesByTwo : z_M := (yX0_minutesByTwo, cX0_minutesByTwo, 4, (some .int), [])
def M_X0_worth : z_M := (yX0_worth, cX0_worth, 3, (some .int), [])
def M_X0_orNever : z_M := (yX0_orNever, cX0_orNever, 1, (some .int), [])
def M_X0_leg : z_M := (yX0_leg, cX0_leg, 3, (some .int), [])
def M_X0_flown : z_M := (yX0_flown, cX0_flown, 3, (some .int), [])
def M_X0_flies : z_M := (yX0_flies, cX0_flies, 3, (some .boolean), [])
def M_X0_see : z_M := (yX0_see, cX0_see, 2, (some .int), [])
def M_X0_who : z_M := (yX0_who, cX0_who, 3, (some .int), [])
def M_X0_isAsSeen : z_M := (yX0_isAsSeen, cX0_isAsSeen, 4, (some .boolean), [])
def M_X0_odds : z_M := (yX0_odds, cX0_odds, 7, (some .long), [])
def M_X0_lowestTerms : z_M := (yX0_lowestTerms, cX0_lowestTerms, 5, (some .long), [])
def M_X0_divisor : z_M := (yX0_divisor, cX0_divisor, 8, (some .long), [])
def M_X0_mean : z_M := (yX0_mean, cX0_mean, 6, (some .long), [])
def M_X0_book : z_M := (yX0_book, cX0_book, 3, (some .int), [])
def M_X0_looked : z_M := (yX0_looked, cX0_looked, 2, (some .int), [])
def M_X0_judge : z_M := (yX0_judge, cX0_judge, 4, (some .int), [(9, 26, 27, 332)])
def M_X0_isTape : z_M := (yX0_isTape, cX0_isTape, 1, (some .boolean), [])
def M_X0_firstOther : z_M := (yX0_firstOther, cX0_firstOther, 6, (some .int), [(2, 61, 71, 318), (62, 70, 71, 318), (2, 61, 78, 213), (62, 70, 78, 213)])
def M_X0_image : z_M := (yX0_image, cX0_image, 1, (some .int), [])
def M_X0_undo : z_M := (yX0_undo, cX0_undo, 1, (some .int), [])
def M_X0_act : z_M := (yX0_act, cX0_act, 5, (some .int), [])
def M_X0_trace : z_M := (yX0_trace, cX0_trace, 2, (some .int), [])
def M_X0_taken : z_M := (yX0_taken, cX0_taken, 4, (some .int), [(13, 38, 39, 318), (13, 38, 43, 332)])
def M_X0_takenFor : z_M := (yX0_takenFor, cX0_takenFor, 2, (some (.object "SomebodysLift$Lift")), [])
def M_X0_count : z_M := (yX0_count, cX0_count, 2, (some .int), [])
def M_X0_tape : z_M := (yX0_tape, cX0_tape, 5, (some .int), [(32, 56, 57, 379)])
def M_X0_rowOf : z_M := (yX0_rowOf, cX0_rowOf, 2, (some (.object "java/lang/Object")), [])
def M_X0_item : z_M := (yX0_item, cX0_item, 11, (some .int), [(17, 23, 26, 213)])
def M_X0_read : z_M := (yX0_read, cX0_read, 6, (some .long), [])
def M_X0_shift : z_M := (yX0_shift, cX0_shift, 7, (some .int), [(16, 44, 45, 318), (16, 44, 50, 394), (16, 44, 55, 396)])
def M_X1_init : z_M := (yX1_init, cX1_init, 1, none, [])
def M_X1_climbs : z_M := (yX1_climbs, cX1_climbs, 3, none, [])
def M_X1_takes : z_M := (yX1_takes, cX1_takes, 2, none, [])
def M_X1_glides : z_M := (yX1_glides, cX1_glides, 3, (some .boolean), [])
def M_X1_reaches : z_M := (yX1_reaches, cX1_reaches, 4, (some .boolean), [])
def M_X1_needs : z_M := (yX1_needs, cX1_needs, 3, (some .int), [])
def M_X10_init : z_M := (yX10_init, cX10_init, 5, none, [])
def M_X10_kind : z_M := (yX10_kind, cX10_kind, 1, (some .int), [])
def M_X10_climb : z_M := (yX10_climb, cX10_climb, 4, (some .int), [])
def M_X10_tells : z_M := (yX10_tells, cX10_tells, 3, (some .int), [])
def M_X11_init : z_M := (yX11_init, cX11_init, 5, none, [])
def M_X11_kind : z_M := (yX11_kind, cX11_kind, 1, (some .int), [])
def M_X11_climb : z_M := (yX11_climb, cX11_climb, 4, (some .int), [])
def M_X11_turns : z_M := (yX11_turns, cX11_turns, 2, (some .int), [])
def M_X11_climbs : z_M := (yX11_climbs, cX11_climbs, 2, (some .int), [])
def M_X12_init : z_M := (yX12_init, cX12_init, 5, none, [])
def M_X12_kind : z_M := (yX12_kind, cX12_kind, 1, (some .int), [])
def M_X12_climb : z_M := (yX12_climb, cX12_climb, 4, (some .int), [])
def M_X12_tells : z_M := (yX12_tells, cX12_tells, 2, (some .int), [])
def M_X13_init : z_M := (yX13_init, cX13_init, 6, none, [])
def M_X13_kind : z_M := (yX13_kind, cX13_kind, 1, (some .int), [])
def M_X13_climb : z_M := (yX13_climb, cX13_climb, 4, (some .int), [])
def M_X13_turns : z_M := (yX13_turns, cX13_turns, 2, (some .int), [])
def M_X13_climbs : z_M := (yX13_climbs, cX13_climbs, 3, (some .int), [])
def M_X14_init : z_M := (yX14_init, cX14_init, 3, none, [])
def M_X14_air : z_M := (yX14_air, cX14_air, 1, (some (.object "SomebodysLift$Air")), [])
def M_X14_clause : z_M := (yX14_clause, cX14_clause, 1, none, [])
def M_X14_here : z_M := (yX14_here, cX14_here, 1, (some .int), [])
def M_X14_tested : z_M := (yX14_tested, cX14_tested, 4, none, [])
def M_X14_word : z_M := (yX14_word, cX14_word, 3, none, [])
def M_X14_must : z_M := (yX14_must, cX14_must, 2, none, [])
def M_X14_off : z_M := (yX14_off, cX14_off, 1, (some (.object "SomebodysLift$Off")), [])
def M_X14_number : z_M := (yX14_number, cX14_number, 3, (some .int), [])
def M_X14_some : z_M := (yX14_some, cX14_some, 2, (some (.object "SomebodysLift$Test")), [])
def M_X14_all : z_M := (yX14_all, cX14_all, 2, (some (.object "SomebodysLift$Test")), [])
def M_X14_factor : z_M := (yX14_factor, cX14_factor, 3, (some (.object "SomebodysLift$Test")), [])
def M_X14_deeper : z_M := (yX14_deeper, cX14_deeper, 1, none, [])
def M_X14_told : z_M := (yX14_told, cX14_told, 2, (some .int), [])
def M_X15_init : z_M := (yX15_init, cX15_init, 2, none, [])
def M_X16_init : z_M := (yX16_init, cX16_init, 3, none, [])
def M_X17_init : z_M := (yX17_init, cX17_init, 1, none, [])
def M_X18_holds : z_M := (yX18_holds, cX18_holds, 3, (some .boolean), [])
def M_X18_init : z_M := (yX18_init, cX18_init, 2, none, [])
def M_X19_holds : z_M := (yX19_holds, cX19_holds, 2, (some .boolean), [])
def M_X19_init : z_M := (yX19_init, cX19_init, 2, none, [])
def M_X2_init : z_M := (yX2_init, cX2_init, 1, none, [])
def M_X2_more : z_M := (yX2_more, cX2_more, 4, (some .int), [])
def M_X2_top : z_M := (yX2_top, cX2_top, 1, (some .int), [])
def M_X2_safely : z_M := (yX2_safely, cX2_safely, 1, (some .int), [])
def M_X20_holds : z_M := (yX20_holds, cX20_holds, 2, (some .boolean), [])
def M_X20_init : z_M := (yX20_init, cX20_init, 4, none, [])
def M_X3_init : z_M := (yX3_init, cX3_init, 1, none, [])
def M_X3_of : z_M := (yX3_of, cX3_of, 2, (some .int), [])
def M_X4_init : z_M := (yX4_init, cX4_init, 1, none, [])
def M_X4_ran : z_M := (yX4_ran, cX4_ran, 2, none, [])
def M_X5_init : z_M := (yX5_init, cX5_init, 1, none, [])
def M_X5_has : z_M := (yX5_has, cX5_has, 2, none, [])
def M_X5_size : z_M := (yX5_size, cX5_size, 3, (some .int), [])
def M_X6_init : z_M := (yX6_init, cX6_init, 1, none, [])
def M_X6_lift : z_M := (yX6_lift, cX6_lift, 6, (some .int), [])
def M_X6_in : z_M := (yX6_in, cX6_in, 4, (some .boolean), [])
def M_X6_isMile : z_M := (yX6_isMile, cX6_isMile, 2, (some .boolean), [])
def M_X6_pull : z_M := (yX6_pull, cX6_pull, 4, (some .int), [])
def M_X6_isLift : z_M := (yX6_isLift, cX6_isLift, 2, (some .boolean), [])
def M_X6_row : z_M := (yX6_row, cX6_row, 5, (some .int), [])
def M_X6_home : z_M := (yX6_home, cX6_home, 3, (some .int), [])
def M_X6_height : z_M := (yX6_height, cX6_height, 3, (some .int), [])
def M_X6_feed : z_M := (yX6_feed, cX6_feed, 2, (some .int), [])
def M_X6_air : z_M := (yX6_air, cX6_air, 2, (some .int), [])
def M_X6_goesText : z_M := (yX6_goesText, cX6_goesText, 3, (some .boolean), [])
def M_X6_takesClause : z_M := (yX6_takesClause, cX6_takesClause, 2, (some .boolean), [])
def M_X6_takesHead : z_M := (yX6_takesHead, cX6_takesHead, 2, (some .boolean), [])
def M_X6_peek : z_M := (yX6_peek, cX6_peek, 1, (some .int), [])
def M_X6_takesWord : z_M := (yX6_takesWord, cX6_takesWord, 4, (some .boolean), [])
def M_X6_takes : z_M := (yX6_takes, cX6_takes, 2, (some .boolean), [])
def M_X6_takesNumber : z_M := (yX6_takesNumber, cX6_takesNumber, 2, (some .boolean), [])
def M_X6_isDigit : z_M := (yX6_isDigit, cX6_isDigit, 1, (some .boolean), [])
def M_X6_takesE : z_M := (yX6_takesE, cX6_takesE, 4, (some .boolean), [])
def M_X6_takesTest : z_M := (yX6_takesTest, cX6_takesTest, 3, (some .boolean), [])
def M_X6_place : z_M := (yX6_place, cX6_place, 2, (some .int), [])
def M_X6_emits : z_M := (yX6_emits, cX6_emits, 2, none, [])
def M_X6_whole : z_M := (yX6_whole, cX6_whole, 1, none, [])
def M_X6_settle : z_M := (yX6_settle, cX6_settle, 2, none, [])
def M_X6_of : z_M := (yX6_of, cX6_of, 3, (some .int), [])
def M_X6_gain : z_M := (yX6_gain, cX6_gain, 4, (some .int), [])
def M_X6_begin : z_M := (yX6_begin, cX6_begin, 1, (some .int), [])
def M_X6_behind : z_M := (yX6_behind, cX6_behind, 1, (some .int), [])
def M_X6_holds : z_M := (yX6_holds, cX6_holds, 8, (some .boolean), [])
def M_X6_factOf : z_M := (yX6_factOf, cX6_factOf, 3, (some .int), [])
def M_X6_climb : z_M := (yX6_climb, cX6_climb, 3, (some .int), [])
def M_X6_told : z_M := (yX6_told, cX6_told, 2, (some .int), [])
def M_X6_base : z_M := (yX6_base, cX6_base, 2, (some .int), [])
def M_X6_lastOf : z_M := (yX6_lastOf, cX6_lastOf, 5, (some .int), [])
def M_X6_safe : z_M := (yX6_safe, cX6_safe, 1, (some .int), [])
def M_X6_enter : z_M := (yX6_enter, cX6_enter, 2, (some .int), [])
def M_X6_turn : z_M := (yX6_turn, cX6_turn, 3, (some .int), [])
def M_X6_isTime : z_M := (yX6_isTime, cX6_isTime, 2, (some .boolean), [])
def M_X6_goMinute : z_M := (yX6_goMinute, cX6_goMinute, 5, none, [])
def M_X6_glide : z_M := (yX6_glide, cX6_glide, 3, (some .int), [])
def M_X6_isPace : z_M := (yX6_isPace, cX6_isPace, 2, (some .boolean), [])
def M_X6_apart : z_M := (yX6_apart, cX6_apart, 3, (some .int), [])
def M_X6_goGlide : z_M := (yX6_goGlide, cX6_goGlide, 3, (some .boolean), [])
def M_X6_falls : z_M := (yX6_falls, cX6_falls, 4, (some .int), [])
def M_X6_up : z_M := (yX6_up, cX6_up, 3, (some .int), [])
def M_X6_upOf : z_M := (yX6_upOf, cX6_upOf, 4, (some .int), [])
def M_X6_save : z_M := (yX6_save, cX6_save, 1, none, [])
def M_X6_putBack : z_M := (yX6_putBack, cX6_putBack, 1, none, [])
def M_X6_top : z_M := (yX6_top, cX6_top, 6, (some .int), [])
def M_X6_arrives : z_M := (yX6_arrives, cX6_arrives, 4, (some .int), [])
def M_X6_outed : z_M := (yX6_outed, cX6_outed, 4, (some .int), [])
def M_X6_reach : z_M := (yX6_reach, cX6_reach, 4, (some .int), [])
def M_X6_canReach : z_M := (yX6_canReach, cX6_canReach, 4, (some .boolean), [])
def M_X6_next : z_M := (yX6_next, cX6_next, 7, (some .int), [])
def M_X6_lowest : z_M := (yX6_lowest, cX6_lowest, 4, (some .int), [])
def M_X6_by : z_M := (yX6_by, cX6_by, 5, (some .int), [])
def M_X6_byOf : z_M := (yX6_byOf, cX6_byOf, 6, (some .int), [])
def M_X6_rises : z_M := (yX6_rises, cX6_rises, 7, (some .boolean), [])
def M_X6_straight : z_M := (yX6_straight, cX6_straight, 2, (some .int), [])
def M_X6_straightOf : z_M := (yX6_straightOf, cX6_straightOf, 3, (some .int), [])
def M_X6_best : z_M := (yX6_best, cX6_best, 2, (some .int), [])
def M_X6_layBest : z_M := (yX6_layBest, cX6_layBest, 4, none, [])
def M_X6_takesBest : z_M := (yX6_takesBest, cX6_takesBest, 4, none, [])
def M_X6_two : z_M := (yX6_two, cX6_two, 8, (some .int), [])
def M_X6_worth : z_M := (yX6_worth, cX6_worth, 3, (some .int), [])
def M_X6_leg : z_M := (yX6_leg, cX6_leg, 3, (some .int), [])
def M_X6_flown : z_M := (yX6_flown, cX6_flown, 6, (some .int), [])
def M_X6_see : z_M := (yX6_see, cX6_see, 2, (some .int), [])
def M_X6_who : z_M := (yX6_who, cX6_who, 3, (some .int), [])
def M_X6_isSeen : z_M := (yX6_isSeen, cX6_isSeen, 5, (some .boolean), [])
def M_X6_odds : z_M := (yX6_odds, cX6_odds, 6, (some .long), [])
def M_X6_lowestTerms : z_M := (yX6_lowestTerms, cX6_lowestTerms, 5, (some .long), [])
def M_X6_divisor : z_M := (yX6_divisor, cX6_divisor, 6, (some .int), [])
def M_X6_mean : z_M := (yX6_mean, cX6_mean, 5, (some .long), [])
def M_X6_book : z_M := (yX6_book, cX6_book, 3, (some .int), [])
def M_X6_looked : z_M := (yX6_looked, cX6_looked, 2, (some .int), [])
def M_X6_judge : z_M := (yX6_judge, cX6_judge, 4, (some .int), [])
def M_X6_isTape : z_M := (yX6_isTape, cX6_isTape, 2, (some .boolean), [])
def M_X6_image : z_M := (yX6_image, cX6_image, 2, (some .int), [])
def M_X6_undo : z_M := (yX6_undo, cX6_undo, 2, (some .int), [])
def M_X6_act : z_M := (yX6_act, cX6_act, 4, (some .int), [])
def M_X6_turnsAct : z_M := (yX6_turnsAct, cX6_turnsAct, 3, (some .int), [])
def M_X6_body : z_M := (yX6_body, cX6_body, 2, none, [])
def M_X6_liftTurns : z_M := (yX6_liftTurns, cX6_liftTurns, 3, (some .int), [])
def M_X6_climbsAct : z_M := (yX6_climbsAct, cX6_climbsAct, 4, (some .int), [])
def M_X6_strongClimbs : z_M := (yX6_strongClimbs, cX6_strongClimbs, 3, (some .int), [])
def M_X6_liftClimbs : z_M := (yX6_liftClimbs, cX6_liftClimbs, 3, (some .int), [])
def M_X6_tellsAct : z_M := (yX6_tellsAct, cX6_tellsAct, 4, (some .int), [])
def M_X6_liftTells : z_M := (yX6_liftTells, cX6_liftTells, 3, (some .int), [])
def M_X6_trace : z_M := (yX6_trace, cX6_trace, 2, (some .int), [])
def M_X6_taken : z_M := (yX6_taken, cX6_taken, 4, (some .int), [])
def M_X6_count : z_M := (yX6_count, cX6_count, 2, (some .int), [])
def M_X6_tape : z_M := (yX6_tape, cX6_tape, 5, (some .int), [])
def M_X6_item : z_M := (yX6_item, cX6_item, 5, (some .int), [])
def M_X6_narrow : z_M := (yX6_narrow, cX6_narrow, 4, (some .long), [])
def M_X6_read : z_M := (yX6_read, cX6_read, 3, (some .long), [])
def M_X6_shift : z_M := (yX6_shift, cX6_shift, 7, (some .int), [])
def M_X7_init : z_M := (yX7_init, cX7_init, 5, none, [])
def M_X7_kind : z_M := (yX7_kind, cX7_kind, 1, (some .int), [])
def M_X7_climb : z_M := (yX7_climb, cX7_climb, 4, (some .int), [])
def M_X7_turns : z_M := (yX7_turns, cX7_turns, 2, (some .int), [])
def M_X7_climbs : z_M := (yX7_climbs, cX7_climbs, 2, (some .int), [])
def M_X7_tells : z_M := (yX7_tells, cX7_tells, 2, (some .int), [])
def M_X8_init : z_M := (yX8_init, cX8_init, 5, none, [])
def M_X8_kind : z_M := (yX8_kind, cX8_kind, 1, (some .int), [])
def M_X8_climb : z_M := (yX8_climb, cX8_climb, 4, (some .int), [])
def M_X8_climbs : z_M := (yX8_climbs, cX8_climbs, 2, (some .int), [])
def M_X9_init : z_M := (yX9_init, cX9_init, 5, none, [])
def M_X9_kind : z_M := (yX9_kind, cX9_kind, 1, (some .int), [])
def M_X9_climb : z_M := (yX9_climb, cX9_climb, 4, (some .int), [])
def M_X9_turns : z_M := (yX9_turns, cX9_turns, 2, (some .int), [])
theorem cl_J0_init : z_cl0 M_J0_init := ⟨q179, q90⟩
theorem cl_J1_init : z_cl0 M_J1_init := ⟨q176, q91⟩
theorem cl_J10_init : z_cl0 M_J10_init := ⟨q814, q112⟩
theorem cl_J10_init_2 : z_cl0 M_J10_init_2 := ⟨q1195, q112⟩
theorem cl_J11_init : z_cl0 M_J11_init := ⟨q811, q113⟩
theorem cl_J11_init_2 : z_cl0 M_J11_init_2 := ⟨q1192, q113⟩
theorem cl_J12_newLength : z_cl0 M_J12_newLength := ⟨q919, q120⟩
theorem cl_J12_hugeLength : z_cl0 M_J12_hugeLength := ⟨q926, q120⟩
theorem cl_J13_copyOf : z_cl0 M_J13_copyOf := ⟨q929, q121⟩
theorem cl_J13_copyOf_2 : z_cl0 M_J13_copyOf_2 := ⟨q962, q121⟩
theorem cl_J14_init : z_cl0 M_J14_init := ⟨q1189, q123⟩
theorem cl_J15_init : z_cl0 M_J15_init := ⟨q1223, q124⟩
theorem cl_J16_init : z_cl0 M_J16_init := ⟨q1355, q125⟩
theorem cl_J17_init : z_cl0 M_J17_init := ⟨q1408, q126⟩
theorem cl_J18_init : z_cl0 M_J18_init := ⟨q1425, q127⟩
theorem cl_J19_init : z_cl0 M_J19_init := ⟨q1422, q128⟩
theorem cl_J2_init : z_cl0 M_J2_init := ⟨q173, q92⟩
theorem cl_J2_size : z_cl0 M_J2_size := ⟨q563, q92⟩
theorem cl_J2_get : z_cl0 M_J2_get := ⟨q567, q92⟩
theorem cl_J2_elementData : z_cl0 M_J2_elementData := ⟨q577, q92⟩
theorem cl_J2_add : z_cl0 M_J2_add := ⟨q904, q92⟩
theorem cl_J2_add_2 : z_cl0 M_J2_add_2 := ⟨q908, q92⟩
theorem cl_J2_grow : z_cl0 M_J2_grow := ⟨q912, q92⟩
theorem cl_J2_grow_2 : z_cl0 M_J2_grow_2 := ⟨q916, q92⟩
theorem cl_J3_min : z_cl0 M_J3_min := ⟨q555, q104⟩
theorem cl_J3_max : z_cl0 M_J3_max := ⟨q922, q104⟩
theorem cl_J3_abs : z_cl0 M_J3_abs := ⟨q1059, q104⟩
theorem cl_J4_checkIndex : z_cl0 M_J4_checkIndex := ⟨q570, q105⟩
theorem cl_J5_checkIndex : z_cl0 M_J5_checkIndex := ⟨q573, q106⟩
theorem cl_J6_length : z_cl0 M_J6_length := ⟨q698, q108⟩
theorem cl_J6_coder : z_cl0 M_J6_coder := ⟨q702, q108⟩
theorem cl_J6_charAt : z_cl0 M_J6_charAt := ⟨q708, q108⟩
theorem cl_J6_isLatin1 : z_cl0 M_J6_isLatin1 := ⟨q712, q108⟩
theorem cl_J6_checkIndex : z_cl0 M_J6_checkIndex := ⟨q718, q108⟩
theorem cl_J7_charAt : z_cl0 M_J7_charAt := ⟨q715, q109⟩
theorem cl_J8_charAt : z_cl0 M_J8_charAt := ⟨q724, q110⟩
theorem cl_J8_checkIndex : z_cl0 M_J8_checkIndex := ⟨q727, q110⟩
theorem cl_J8_length : z_cl0 M_J8_length := ⟨q730, q110⟩
theorem cl_J8_getChar : z_cl0 M_J8_getChar := ⟨q734, q110⟩
theorem cl_J9_init : z_cl0 M_J9_init := ⟨q773, q111⟩
theorem cl_J9_init_2 : z_cl0 M_J9_init_2 := ⟨q1198, q111⟩
theorem cl_X0_init : z_cl0 M_X0_init := ⟨q133, q87⟩
theorem cl_X0_lift : z_cl0 M_X0_lift := ⟨q394, q87⟩
theorem cl_X0_in : z_cl0 M_X0_in := ⟨q397, q87⟩
theorem cl_X0_isMile : z_cl0 M_X0_isMile := ⟨q400, q87⟩
theorem cl_X0_liftOf : z_cl0 M_X0_liftOf := ⟨q404, q87⟩
theorem cl_X0_of : z_cl0 M_X0_of := ⟨q521, q87⟩
theorem cl_X0_isLift : z_cl0 M_X0_isLift := ⟨q525, q87⟩
theorem cl_X0_gainOf : z_cl0 M_X0_gainOf := ⟨q552, q87⟩
theorem cl_X0_climbOf : z_cl0 M_X0_climbOf := ⟨q603, q87⟩
theorem cl_X0_pull : z_cl0 M_X0_pull := ⟨q636, q87⟩
theorem cl_X0_row : z_cl0 M_X0_row := ⟨q640, q87⟩
theorem cl_X0_feed : z_cl0 M_X0_feed := ⟨q644, q87⟩
theorem cl_X0_air : z_cl0 M_X0_air := ⟨q648, q87⟩
theorem cl_X0_home : z_cl0 M_X0_home := ⟨q995, q87⟩
theorem cl_X0_height : z_cl0 M_X0_height := ⟨q999, q87⟩
theorem cl_X0_told : z_cl0 M_X0_told := ⟨q1003, q87⟩
theorem cl_X0_enter : z_cl0 M_X0_enter := ⟨q1016, q87⟩
theorem cl_X0_turn : z_cl0 M_X0_turn := ⟨q1020, q87⟩
theorem cl_X0_turns : z_cl0 M_X0_turns := ⟨q1024, q87⟩
theorem cl_X0_glide : z_cl0 M_X0_glide := ⟨q1034, q87⟩
theorem cl_X0_isGlide : z_cl0 M_X0_isGlide := ⟨q1037, q87⟩
theorem cl_X0_isPace : z_cl0 M_X0_isPace := ⟨q1040, q87⟩
theorem cl_X0_up : z_cl0 M_X0_up := ⟨q1063, q87⟩
theorem cl_X0_top : z_cl0 M_X0_top := ⟨q1067, q87⟩
theorem cl_X0_arrives : z_cl0 M_X0_arrives := ⟨q1071, q87⟩
theorem cl_X0_outed : z_cl0 M_X0_outed := ⟨q1075, q87⟩
theorem cl_X0_reach : z_cl0 M_X0_reach := ⟨q1080, q87⟩
theorem cl_X0_next : z_cl0 M_X0_next := ⟨q1085, q87⟩
theorem cl_X0_lowest : z_cl0 M_X0_lowest := ⟨q1089, q87⟩
theorem cl_X0_by : z_cl0 M_X0_by := ⟨q1094, q87⟩
theorem cl_X0_minutesBy : z_cl0 M_X0_minutesBy := ⟨q1098, q87⟩
theorem cl_X0_climbsTill : z_cl0 M_X0_climbsTill := ⟨q1102, q87⟩
theorem cl_X0_straight : z_cl0 M_X0_straight := ⟨q1106, q87⟩
theorem cl_X0_minutesStraight : z_cl0 M_X0_minutesStraight := ⟨q1110, q87⟩
theorem cl_X0_best : z_cl0 M_X0_best := ⟨q1114, q87⟩
theorem cl_X0_fewestBut : z_cl0 M_X0_fewestBut := ⟨q1118, q87⟩
theorem cl_X0_two : z_cl0 M_X0_two := ⟨q1122, q87⟩
theorem cl_X0_minutesByTwo : z_cl0 M_X0_minutesByTwo := ⟨q1126, q87⟩
theorem cl_X0_worth : z_cl0 M_X0_worth := ⟨q1130, q87⟩
theorem cl_X0_orNever : z_cl0 M_X0_orNever := ⟨q1133, q87⟩
theorem cl_X0_leg : z_cl0 M_X0_leg := ⟨q1137, q87⟩
theorem cl_X0_flown : z_cl0 M_X0_flown := ⟨q1141, q87⟩
theorem cl_X0_flies : z_cl0 M_X0_flies := ⟨q1145, q87⟩
theorem cl_X0_see : z_cl0 M_X0_see := ⟨q1149, q87⟩
theorem cl_X0_who : z_cl0 M_X0_who := ⟨q1153, q87⟩
theorem cl_X0_isAsSeen : z_cl0 M_X0_isAsSeen := ⟨q1157, q87⟩
theorem cl_X0_odds : z_cl0 M_X0_odds := ⟨q1161, q87⟩
theorem cl_X0_lowestTerms : z_cl0 M_X0_lowestTerms := ⟨q1166, q87⟩
theorem cl_X0_divisor : z_cl0 M_X0_divisor := ⟨q1169, q87⟩
theorem cl_X0_mean : z_cl0 M_X0_mean := ⟨q1173, q87⟩
theorem cl_X0_book : z_cl0 M_X0_book := ⟨q1177, q87⟩
theorem cl_X0_looked : z_cl0 M_X0_looked := ⟨q1181, q87⟩
theorem cl_X0_judge : z_cl0 M_X0_judge := ⟨q1185, q87⟩
theorem cl_X0_isTape : z_cl0 M_X0_isTape := ⟨q1215, q87⟩
theorem cl_X0_firstOther : z_cl0 M_X0_firstOther := ⟨q1220, q87⟩
theorem cl_X0_image : z_cl0 M_X0_image := ⟨q1244, q87⟩
theorem cl_X0_undo : z_cl0 M_X0_undo := ⟨q1249, q87⟩
theorem cl_X0_act : z_cl0 M_X0_act := ⟨q1253, q87⟩
theorem cl_X0_trace : z_cl0 M_X0_trace := ⟨q1336, q87⟩
theorem cl_X0_taken : z_cl0 M_X0_taken := ⟨q1340, q87⟩
theorem cl_X0_takenFor : z_cl0 M_X0_takenFor := ⟨q1343, q87⟩
theorem cl_X0_count : z_cl0 M_X0_count := ⟨q1347, q87⟩
theorem cl_X0_tape : z_cl0 M_X0_tape := ⟨q1351, q87⟩
theorem cl_X0_rowOf : z_cl0 M_X0_rowOf := ⟨q1368, q87⟩
theorem cl_X0_item : z_cl0 M_X0_item := ⟨q1375, q87⟩
theorem cl_X0_read : z_cl0 M_X0_read := ⟨q1399, q87⟩
theorem cl_X0_shift : z_cl0 M_X0_shift := ⟨q1404, q87⟩
theorem cl_X1_init : z_cl0 M_X1_init := ⟨q143, q88⟩
theorem cl_X1_climbs : z_cl0 M_X1_climbs := ⟨q1028, q88⟩
theorem cl_X1_takes : z_cl0 M_X1_takes := ⟨q1044, q88⟩
theorem cl_X1_glides : z_cl0 M_X1_glides := ⟨q1048, q88⟩
theorem cl_X1_reaches : z_cl0 M_X1_reaches := ⟨q1052, q88⟩
theorem cl_X1_needs : z_cl0 M_X1_needs := ⟨q1056, q88⟩
theorem cl_X10_init : z_cl0 M_X10_init := ⟨q468, q100⟩
theorem cl_X10_kind : z_cl0 M_X10_kind := ⟨q535, q100⟩
theorem cl_X10_climb : z_cl0 M_X10_climb := ⟨q617, q100⟩
theorem cl_X10_tells : z_cl0 M_X10_tells := ⟨q1315, q100⟩
theorem cl_X11_init : z_cl0 M_X11_init := ⟨q479, q101⟩
theorem cl_X11_kind : z_cl0 M_X11_kind := ⟨q532, q101⟩
theorem cl_X11_climb : z_cl0 M_X11_climb := ⟨q610, q101⟩
theorem cl_X11_turns : z_cl0 M_X11_turns := ⟨q1260, q101⟩
theorem cl_X11_climbs : z_cl0 M_X11_climbs := ⟨q1290, q101⟩
theorem cl_X12_init : z_cl0 M_X12_init := ⟨q490, q102⟩
theorem cl_X12_kind : z_cl0 M_X12_kind := ⟨q544, q102⟩
theorem cl_X12_climb : z_cl0 M_X12_climb := ⟨q626, q102⟩
theorem cl_X12_tells : z_cl0 M_X12_tells := ⟨q1325, q102⟩
theorem cl_X13_init : z_cl0 M_X13_init := ⟨q501, q103⟩
theorem cl_X13_kind : z_cl0 M_X13_kind := ⟨q541, q103⟩
theorem cl_X13_climb : z_cl0 M_X13_climb := ⟨q622, q103⟩
theorem cl_X13_turns : z_cl0 M_X13_turns := ⟨q1272, q103⟩
theorem cl_X13_climbs : z_cl0 M_X13_climbs := ⟨q1300, q103⟩
theorem cl_X14_init : z_cl0 M_X14_init := ⟨q654, q107⟩
theorem cl_X14_air : z_cl0 M_X14_air := ⟨q677, q107⟩
theorem cl_X14_clause : z_cl0 M_X14_clause := ⟨q681, q107⟩
theorem cl_X14_here : z_cl0 M_X14_here := ⟨q685, q107⟩
theorem cl_X14_tested : z_cl0 M_X14_tested := ⟨q690, q107⟩
theorem cl_X14_word : z_cl0 M_X14_word := ⟨q694, q107⟩
theorem cl_X14_must : z_cl0 M_X14_must := ⟨q744, q107⟩
theorem cl_X14_off : z_cl0 M_X14_off := ⟨q748, q107⟩
theorem cl_X14_number : z_cl0 M_X14_number := ⟨q836, q107⟩
theorem cl_X14_some : z_cl0 M_X14_some := ⟨q843, q107⟩
theorem cl_X14_all : z_cl0 M_X14_all := ⟨q866, q107⟩
theorem cl_X14_factor : z_cl0 M_X14_factor := ⟨q870, q107⟩
theorem cl_X14_deeper : z_cl0 M_X14_deeper := ⟨q874, q107⟩
theorem cl_X14_told : z_cl0 M_X14_told := ⟨q990, q107⟩
theorem cl_X15_init : z_cl0 M_X15_init := ⟨q808, q114⟩
theorem cl_X16_init : z_cl0 M_X16_init := ⟨q974, q115⟩
theorem cl_X17_init : z_cl0 M_X17_init := ⟨q851, q116⟩
theorem cl_X18_holds : z_cl0 M_X18_holds := ⟨q594, q117⟩
theorem cl_X18_init : z_cl0 M_X18_init := ⟨q848, q117⟩
theorem cl_X19_holds : z_cl0 M_X19_holds := ⟨q591, q118⟩
theorem cl_X19_init : z_cl0 M_X19_init := ⟨q879, q118⟩
theorem cl_X2_init : z_cl0 M_X2_init := ⟨q167, q89⟩
theorem cl_X2_more : z_cl0 M_X2_more := ⟨q559, q89⟩
theorem cl_X2_top : z_cl0 M_X2_top := ⟨q1007, q89⟩
theorem cl_X2_safely : z_cl0 M_X2_safely := ⟨q1012, q89⟩
theorem cl_X20_holds : z_cl0 M_X20_holds := ⟨q584, q119⟩
theorem cl_X20_init : z_cl0 M_X20_init := ⟨q889, q119⟩
theorem cl_X3_init : z_cl0 M_X3_init := ⟨q216, q93⟩
theorem cl_X3_of : z_cl0 M_X3_of := ⟨q588, q93⟩
theorem cl_X4_init : z_cl0 M_X4_init := ⟨q247, q94⟩
theorem cl_X4_ran : z_cl0 M_X4_ran := ⟨q1264, q94⟩
theorem cl_X5_init : z_cl0 M_X5_init := ⟨q263, q95⟩
theorem cl_X5_has : z_cl0 M_X5_has := ⟨q1379, q95⟩
theorem cl_X5_size : z_cl0 M_X5_size := ⟨q1385, q95⟩
theorem cl_X6_init : z_cl0 M_X6_init := ⟨q1442, q96⟩
theorem cl_X6_lift : z_cl0 M_X6_lift := ⟨q1661, q96⟩
theorem cl_X6_in : z_cl0 M_X6_in := ⟨q1665, q96⟩
theorem cl_X6_isMile : z_cl0 M_X6_isMile := ⟨q1669, q96⟩
theorem cl_X6_pull : z_cl0 M_X6_pull := ⟨q1673, q96⟩
theorem cl_X6_isLift : z_cl0 M_X6_isLift := ⟨q1677, q96⟩
theorem cl_X6_row : z_cl0 M_X6_row := ⟨q1681, q96⟩
theorem cl_X6_home : z_cl0 M_X6_home := ⟨q1685, q96⟩
theorem cl_X6_height : z_cl0 M_X6_height := ⟨q1689, q96⟩
theorem cl_X6_feed : z_cl0 M_X6_feed := ⟨q1693, q96⟩
theorem cl_X6_air : z_cl0 M_X6_air := ⟨q1697, q96⟩
theorem cl_X6_goesText : z_cl0 M_X6_goesText := ⟨q1701, q96⟩
theorem cl_X6_takesClause : z_cl0 M_X6_takesClause := ⟨q1705, q96⟩
theorem cl_X6_takesHead : z_cl0 M_X6_takesHead := ⟨q1709, q96⟩
theorem cl_X6_peek : z_cl0 M_X6_peek := ⟨q1713, q96⟩
theorem cl_X6_takesWord : z_cl0 M_X6_takesWord := ⟨q1717, q96⟩
theorem cl_X6_takes : z_cl0 M_X6_takes := ⟨q1721, q96⟩
theorem cl_X6_takesNumber : z_cl0 M_X6_takesNumber := ⟨q1725, q96⟩
theorem cl_X6_isDigit : z_cl0 M_X6_isDigit := ⟨q1729, q96⟩
theorem cl_X6_takesE : z_cl0 M_X6_takesE := ⟨q1733, q96⟩
theorem cl_X6_takesTest : z_cl0 M_X6_takesTest := ⟨q1737, q96⟩
theorem cl_X6_place : z_cl0 M_X6_place := ⟨q1741, q96⟩
theorem cl_X6_emits : z_cl0 M_X6_emits := ⟨q1745, q96⟩
theorem cl_X6_whole : z_cl0 M_X6_whole := ⟨q1749, q96⟩
theorem cl_X6_settle : z_cl0 M_X6_settle := ⟨q1753, q96⟩
theorem cl_X6_of : z_cl0 M_X6_of := ⟨q1757, q96⟩
theorem cl_X6_gain : z_cl0 M_X6_gain := ⟨q1761, q96⟩
theorem cl_X6_begin : z_cl0 M_X6_begin := ⟨q1765, q96⟩
theorem cl_X6_behind : z_cl0 M_X6_behind := ⟨q1769, q96⟩
theorem cl_X6_holds : z_cl0 M_X6_holds := ⟨q1773, q96⟩
theorem cl_X6_factOf : z_cl0 M_X6_factOf := ⟨q1777, q96⟩
theorem cl_X6_climb : z_cl0 M_X6_climb := ⟨q1781, q96⟩
theorem cl_X6_told : z_cl0 M_X6_told := ⟨q1785, q96⟩
theorem cl_X6_base : z_cl0 M_X6_base := ⟨q1789, q96⟩
theorem cl_X6_lastOf : z_cl0 M_X6_lastOf := ⟨q1793, q96⟩
theorem cl_X6_safe : z_cl0 M_X6_safe := ⟨q1797, q96⟩
theorem cl_X6_enter : z_cl0 M_X6_enter := ⟨q1801, q96⟩
theorem cl_X6_turn : z_cl0 M_X6_turn := ⟨q1805, q96⟩
theorem cl_X6_isTime : z_cl0 M_X6_isTime := ⟨q1809, q96⟩
theorem cl_X6_goMinute : z_cl0 M_X6_goMinute := ⟨q1813, q96⟩
theorem cl_X6_glide : z_cl0 M_X6_glide := ⟨q1817, q96⟩
theorem cl_X6_isPace : z_cl0 M_X6_isPace := ⟨q1821, q96⟩
theorem cl_X6_apart : z_cl0 M_X6_apart := ⟨q1825, q96⟩
theorem cl_X6_goGlide : z_cl0 M_X6_goGlide := ⟨q1829, q96⟩
theorem cl_X6_falls : z_cl0 M_X6_falls := ⟨q1833, q96⟩
theorem cl_X6_up : z_cl0 M_X6_up := ⟨q1837, q96⟩
theorem cl_X6_upOf : z_cl0 M_X6_upOf := ⟨q1841, q96⟩
theorem cl_X6_save : z_cl0 M_X6_save := ⟨q1845, q96⟩
theorem cl_X6_putBack : z_cl0 M_X6_putBack := ⟨q1849, q96⟩
theorem cl_X6_top : z_cl0 M_X6_top := ⟨q1853, q96⟩
theorem cl_X6_arrives : z_cl0 M_X6_arrives := ⟨q1857, q96⟩
theorem cl_X6_outed : z_cl0 M_X6_outed := ⟨q1861, q96⟩
theorem cl_X6_reach : z_cl0 M_X6_reach := ⟨q1865, q96⟩
theorem cl_X6_canReach : z_cl0 M_X6_canReach := ⟨q1869, q96⟩
theorem cl_X6_next : z_cl0 M_X6_next := ⟨q1873, q96⟩
theorem cl_X6_lowest : z_cl0 M_X6_lowest := ⟨q1877, q96⟩
theorem cl_X6_by : z_cl0 M_X6_by := ⟨q1881, q96⟩
theorem cl_X6_byOf : z_cl0 M_X6_byOf := ⟨q1885, q96⟩
theorem cl_X6_rises : z_cl0 M_X6_rises := ⟨q1889, q96⟩
theorem cl_X6_straight : z_cl0 M_X6_straight := ⟨q1893, q96⟩
theorem cl_X6_straightOf : z_cl0 M_X6_straightOf := ⟨q1897, q96⟩
theorem cl_X6_best : z_cl0 M_X6_best := ⟨q1901, q96⟩
theorem cl_X6_layBest : z_cl0 M_X6_layBest := ⟨q1905, q96⟩
theorem cl_X6_takesBest : z_cl0 M_X6_takesBest := ⟨q1909, q96⟩
theorem cl_X6_two : z_cl0 M_X6_two := ⟨q1913, q96⟩
theorem cl_X6_worth : z_cl0 M_X6_worth := ⟨q1917, q96⟩
theorem cl_X6_leg : z_cl0 M_X6_leg := ⟨q1921, q96⟩
theorem cl_X6_flown : z_cl0 M_X6_flown := ⟨q1925, q96⟩
theorem cl_X6_see : z_cl0 M_X6_see := ⟨q1929, q96⟩
theorem cl_X6_who : z_cl0 M_X6_who := ⟨q1933, q96⟩
theorem cl_X6_isSeen : z_cl0 M_X6_isSeen := ⟨q1937, q96⟩
theorem cl_X6_odds : z_cl0 M_X6_odds := ⟨q1941, q96⟩
theorem cl_X6_lowestTerms : z_cl0 M_X6_lowestTerms := ⟨q1946, q96⟩
theorem cl_X6_divisor : z_cl0 M_X6_divisor := ⟨q1950, q96⟩
theorem cl_X6_mean : z_cl0 M_X6_mean := ⟨q1954, q96⟩
theorem cl_X6_book : z_cl0 M_X6_book := ⟨q1958, q96⟩
theorem cl_X6_looked : z_cl0 M_X6_looked := ⟨q1962, q96⟩
theorem cl_X6_judge : z_cl0 M_X6_judge := ⟨q1966, q96⟩
theorem cl_X6_isTape : z_cl0 M_X6_isTape := ⟨q1970, q96⟩
theorem cl_X6_image : z_cl0 M_X6_image := ⟨q1974, q96⟩
theorem cl_X6_undo : z_cl0 M_X6_undo := ⟨q1978, q96⟩
theorem cl_X6_act : z_cl0 M_X6_act := ⟨q1982, q96⟩
theorem cl_X6_turnsAct : z_cl0 M_X6_turnsAct := ⟨q1986, q96⟩
theorem cl_X6_body : z_cl0 M_X6_body := ⟨q1990, q96⟩
theorem cl_X6_liftTurns : z_cl0 M_X6_liftTurns := ⟨q1994, q96⟩
theorem cl_X6_climbsAct : z_cl0 M_X6_climbsAct := ⟨q1998, q96⟩
theorem cl_X6_strongClimbs : z_cl0 M_X6_strongClimbs := ⟨q2002, q96⟩
theorem cl_X6_liftClimbs : z_cl0 M_X6_liftClimbs := ⟨q2006, q96⟩
theorem cl_X6_tellsAct : z_cl0 M_X6_tellsAct := ⟨q2010, q96⟩
theorem cl_X6_liftTells : z_cl0 M_X6_liftTells := ⟨q2014, q96⟩
theorem cl_X6_trace : z_cl0 M_X6_trace := ⟨q2018, q96⟩
theorem cl_X6_taken : z_cl0 M_X6_taken := ⟨q2022, q96⟩
theorem cl_X6_count : z_cl0 M_X6_count := ⟨q2026, q96⟩
theorem cl_X6_tape : z_cl0 M_X6_tape := ⟨q2030, q96⟩
theorem cl_X6_item : z_cl0 M_X6_item := ⟨q2034, q96⟩
theorem cl_X6_narrow : z_cl0 M_X6_narrow := ⟨q2038, q96⟩
theorem cl_X6_read : z_cl0 M_X6_read := ⟨q2042, q96⟩
theorem cl_X6_shift : z_cl0 M_X6_shift := ⟨q2046, q96⟩
theorem cl_X7_init : z_cl0 M_X7_init := ⟨q412, q97⟩
theorem cl_X7_kind : z_cl0 M_X7_kind := ⟨q548, q97⟩
theorem cl_X7_climb : z_cl0 M_X7_climb := ⟨q632, q97⟩
theorem cl_X7_turns : z_cl0 M_X7_turns := ⟨q1282, q97⟩
theorem cl_X7_climbs : z_cl0 M_X7_climbs := ⟨q1306, q97⟩
theorem cl_X7_tells : z_cl0 M_X7_tells := ⟨q1331, q97⟩
theorem cl_X8_init : z_cl0 M_X8_init := ⟨q409, q98⟩
theorem cl_X8_kind : z_cl0 M_X8_kind := ⟨q538, q98⟩
theorem cl_X8_climb : z_cl0 M_X8_climb := ⟨q613, q98⟩
theorem cl_X8_climbs : z_cl0 M_X8_climbs := ⟨q1293, q98⟩
theorem cl_X9_init : z_cl0 M_X9_init := ⟨q457, q99⟩
theorem cl_X9_kind : z_cl0 M_X9_kind := ⟨q547, q99⟩
theorem cl_X9_climb : z_cl0 M_X9_climb := ⟨q629, q99⟩
theorem cl_X9_turns : z_cl0 M_X9_turns := ⟨q1278, q99⟩
theorem il_J1_1 : z_lkI RJ1 1 M_J0_init 0 := ⟨cl_J0_init, q178, rfl, rfl, rfl, ⟨by decide +kernel, by decide +kernel⟩, by decide +kernel, Or.inl q177⟩
theorem fl_J1_7_21 : z_Fl RJ1 7 21 0 := ⟨_, _, rfl, by decide, Or.inl q185, Or.inl rfl⟩
theorem pl_J1_7_21 {y : MethodName} (hy : y.cls = RJ1) : z_Pl y 7 21 0 := ⟨by rw [hy]; exact fl_J1_7_21, fun q hq => by cases hq; exact Or.inl rfl⟩
theorem il_J10_1 : z_lkI RJ10 1 M_J9_init 0 := ⟨cl_J9_init, q772, rfl, rfl, rfl, ⟨by decide +kernel, by decide +kernel⟩, by decide +kernel, Or.inl q815⟩
theorem il_J10_7 : z_lkI RJ10 7 M_J9_init_2 1 := ⟨cl_J9_init_2, q1197, rfl, rfl, rfl, ⟨by decide +kernel, by decide +kernel⟩, by decide +kernel, Or.inl q1196⟩
theorem il_J11_1 : z_lkI RJ11 1 M_J10_init 0 := ⟨cl_J10_init, q813, rfl, rfl, rfl, ⟨by decide +kernel, by decide +kernel⟩, by decide +kernel, Or.inl q812⟩
theorem il_J11_7 : z_lkI RJ11 7 M_J10_init_2 1 := ⟨cl_J10_init_2, q1194, rfl, rfl, rfl, ⟨by decide +kernel, by decide +kernel⟩, by decide +kernel, Or.inl q1193⟩
theorem sl_J12_194 : z_lkS RJ12 194 M_J3_max 2 := ⟨cl_J3_max, q921, ⟨by decide +kernel, by decide +kernel⟩, by decide +kernel, Or.inl q920⟩
theorem sl_J12_201 : z_lkS RJ12 201 M_J12_hugeLength 2 := ⟨cl_J12_hugeLength, q925, ⟨by decide +kernel, by decide +kernel⟩, by decide +kernel, Or.inl q924⟩
theorem sl_J13_300 : z_lkS RJ13 300 M_J13_copyOf_2 3 := ⟨cl_J13_copyOf_2, q961, ⟨by decide +kernel, by decide +kernel⟩, by decide +kernel, Or.inl q960⟩
theorem sl_J13_304 : z_lkS RJ13 304 M_J3_min 2 := ⟨cl_J3_min, q554, ⟨by decide +kernel, by decide +kernel⟩, by decide +kernel, Or.inl q966⟩
theorem il_J14_7 : z_lkI RJ14 7 M_J11_init_2 1 := ⟨cl_J11_init_2, q1191, rfl, rfl, rfl, ⟨by decide +kernel, by decide +kernel⟩, by decide +kernel, Or.inl q1190⟩
theorem il_J15_1 : z_lkI RJ15 1 M_J11_init 0 := ⟨cl_J11_init, q810, rfl, rfl, rfl, ⟨by decide +kernel, by decide +kernel⟩, by decide +kernel, Or.inl q1224⟩
theorem il_J16_7 : z_lkI RJ16 7 M_J11_init_2 1 := ⟨cl_J11_init_2, q1191, rfl, rfl, rfl, ⟨by decide +kernel, by decide +kernel⟩, by decide +kernel, Or.inl q1356⟩
theorem il_J17_7 : z_lkI RJ17 7 M_J11_init_2 1 := ⟨cl_J11_init_2, q1191, rfl, rfl, rfl, ⟨by decide +kernel, by decide +kernel⟩, by decide +kernel, Or.inl q1409⟩
theorem il_J18_7 : z_lkI RJ18 7 M_J11_init_2 1 := ⟨cl_J11_init_2, q1191, rfl, rfl, rfl, ⟨by decide +kernel, by decide +kernel⟩, by decide +kernel, Or.inl q1426⟩
theorem il_J19_7 : z_lkI RJ19 7 M_J18_init 1 := ⟨cl_J18_init, q1424, rfl, rfl, rfl, ⟨by decide +kernel, by decide +kernel⟩, by decide +kernel, Or.inl q1423⟩
theorem il_J2_1 : z_lkI RJ2 1 M_J1_init 0 := ⟨cl_J1_init, q175, rfl, rfl, rfl, ⟨by decide +kernel, by decide +kernel⟩, by decide +kernel, Or.inl q174⟩
theorem fl_J2_9_21 : z_Fl RJ2 9 21 1 := ⟨_, _, rfl, by decide, Or.inl q183, Or.inl rfl⟩
theorem pl_J2_9_21 {y : MethodName} (hy : y.cls = RJ2) : z_Pl y 9 21 1 := ⟨by rw [hy]; exact fl_J2_9_21, fun q hq => by cases hq; exact Or.inl rfl⟩
theorem fl_J2_48_21 : z_Fl RJ2 48 21 2 := ⟨_, _, rfl, by decide, Or.inl q184, Or.inl rfl⟩
theorem pl_J2_48_21 {y : MethodName} (hy : y.cls = RJ2) : z_Pl y 48 21 2 := ⟨by rw [hy]; exact fl_J2_48_21, fun q hq => by cases hq; exact Or.inl rfl⟩
theorem sl_J2_118 : z_lkS RJ2 118 M_J4_checkIndex 2 := ⟨cl_J4_checkIndex, q569, ⟨by decide +kernel, by decide +kernel⟩, by decide +kernel, Or.inl q568⟩
theorem vl_J2_123_21 : z_lkV RJ2 123 M_J2_elementData 21 1 := ⟨cl_J2_elementData, q575, _, rfl, Or.inl ⟨q574, q576, ⟨by decide +kernel, by decide +kernel⟩, by decide +kernel⟩⟩
theorem fl_J2_63_21 : z_Fl RJ2 63 21 0 := ⟨_, _, rfl, by decide, Or.inl q186, Or.inr q187⟩
theorem pl_J2_63_21 {y : MethodName} (hy : y.cls = RJ2) : z_Pl y 63 21 0 := ⟨by rw [hy]; exact fl_J2_63_21, fun q hq => by cases hq; exact Or.inl rfl⟩
theorem vl_J2_131_21 : z_lkV RJ2 131 M_J2_add_2 21 3 := ⟨cl_J2_add_2, q907, _, rfl, Or.inl ⟨q905, qs17, ⟨by decide +kernel, by decide +kernel⟩, by decide +kernel⟩⟩
theorem vl_J2_129_21 : z_lkV RJ2 129 M_J2_grow 21 0 := ⟨cl_J2_grow, q911, _, rfl, Or.inl ⟨q909, qs18, ⟨by decide +kernel, by decide +kernel⟩, by decide +kernel⟩⟩
theorem vl_J2_69_21 : z_lkV RJ2 69 M_J2_grow_2 21 1 := ⟨cl_J2_grow_2, q915, _, rfl, Or.inl ⟨q913, qs19, ⟨by decide +kernel, by decide +kernel⟩, by decide +kernel⟩⟩
theorem sl_J2_73 : z_lkS RJ2 73 M_J12_newLength 3 := ⟨cl_J12_newLength, q918, ⟨by decide +kernel, by decide +kernel⟩, by decide +kernel, Or.inl q917⟩
theorem sl_J2_66 : z_lkS RJ2 66 M_J13_copyOf 2 := ⟨cl_J13_copyOf, q928, ⟨by decide +kernel, by decide +kernel⟩, by decide +kernel, Or.inl q927⟩
theorem sl_J2_79 : z_lkS RJ2 79 M_J3_max 2 := ⟨cl_J3_max, q921, ⟨by decide +kernel, by decide +kernel⟩, by decide +kernel, Or.inl q970⟩
theorem sl_J4_105 : z_lkS RJ4 105 M_J5_checkIndex 3 := ⟨cl_J5_checkIndex, q572, ⟨by decide +kernel, by decide +kernel⟩, by decide +kernel, Or.inl q571⟩
theorem fl_J6_9_22 : z_Fl RJ6 9 22 0 := ⟨_, _, rfl, by decide, Or.inl q2105, Or.inl rfl⟩
theorem vl_J6_335_22 : z_lkV RJ6 335 M_J6_coder 22 0 := ⟨cl_J6_coder, q700, _, rfl, Or.inl ⟨q699, q701, ⟨by decide +kernel, by decide +kernel⟩, by decide +kernel⟩⟩
theorem fl_J6_15_22 : z_Fl RJ6 15 22 1 := ⟨_, _, rfl, by decide, Or.inl q2106, Or.inl rfl⟩
theorem vl_J6_492_22 : z_lkV RJ6 492 M_J6_isLatin1 22 0 := ⟨cl_J6_isLatin1, q710, _, rfl, Or.inl ⟨q709, q711, ⟨by decide +kernel, by decide +kernel⟩, by decide +kernel⟩⟩
theorem sl_J6_495 : z_lkS RJ6 495 M_J7_charAt 2 := ⟨cl_J7_charAt, q714, ⟨by decide +kernel, by decide +kernel⟩, by decide +kernel, Or.inl q713⟩
theorem sl_J6_498 : z_lkS RJ6 498 M_J8_charAt 2 := ⟨cl_J8_charAt, q723, ⟨by decide +kernel, by decide +kernel⟩, by decide +kernel, Or.inl q722⟩
theorem sl_J6_1059 : z_lkS RJ6 1059 M_J5_checkIndex 3 := ⟨cl_J5_checkIndex, q572, ⟨by decide +kernel, by decide +kernel⟩, by decide +kernel, Or.inl q721⟩
theorem sl_J7_9 : z_lkS RJ7 9 M_J6_checkIndex 2 := ⟨cl_J6_checkIndex, q717, ⟨by decide +kernel, by decide +kernel⟩, by decide +kernel, Or.inl q716⟩
theorem sl_J8_67 : z_lkS RJ8 67 M_J8_checkIndex 2 := ⟨cl_J8_checkIndex, q726, ⟨by decide +kernel, by decide +kernel⟩, by decide +kernel, Or.inl q725⟩
theorem sl_J8_71 : z_lkS RJ8 71 M_J8_getChar 2 := ⟨cl_J8_getChar, q733, ⟨by decide +kernel, by decide +kernel⟩, by decide +kernel, Or.inl q732⟩
theorem sl_J8_48 : z_lkS RJ8 48 M_J8_length 1 := ⟨cl_J8_length, q729, ⟨by decide +kernel, by decide +kernel⟩, by decide +kernel, Or.inl q728⟩
theorem sl_J8_414 : z_lkS RJ8 414 M_J6_checkIndex 2 := ⟨cl_J6_checkIndex, q717, ⟨by decide +kernel, by decide +kernel⟩, by decide +kernel, Or.inl q731⟩
theorem fl_J9_7_15 : z_Fl RJ9 7 15 0 := ⟨_, _, rfl, by decide, Or.inl q820, Or.inl rfl⟩
theorem pl_J9_7_15 {y : MethodName} (hy : y.cls = RJ9) : z_Pl y 7 15 0 := ⟨by rw [hy]; exact fl_J9_7_15, fun q hq => by cases hq; exact Or.inl rfl⟩
theorem fl_J9_17_15 : z_Fl RJ9 17 15 1 := ⟨_, _, rfl, by decide, Or.inl q821, Or.inl rfl⟩
theorem pl_J9_17_15 {y : MethodName} (hy : y.cls = RJ9) : z_Pl y 17 15 1 := ⟨by rw [hy]; exact fl_J9_17_15, fun q hq => by cases hq; exact Or.inl rfl⟩
theorem fl_J9_24_15 : z_Fl RJ9 24 15 2 := ⟨_, _, rfl, by decide, Or.inl q822, Or.inl rfl⟩
theorem pl_J9_24_15 {y : MethodName} (hy : y.cls = RJ9) : z_Pl y 24 15 2 := ⟨by rw [hy]; exact fl_J9_24_15, fun q hq => by cases hq; exact Or.inl rfl⟩
theorem fl_J9_31_15 : z_Fl RJ9 31 15 3 := ⟨_, _, rfl, by decide, Or.inl q819, Or.inl rfl⟩
theorem pl_J9_31_15 {y : MethodName} (hy : y.cls = RJ9) : z_Pl y 31 15 3 := ⟨by rw [hy]; exact fl_J9_31_15, fun q hq => by cases hq; exact Or.inl rfl⟩
theorem il_L_9 : z_lkI "SomebodysLiftLaw" 9 M_X0_init 0 := ⟨cl_X0_init, q132, rfl, rfl, rfl, ⟨by decide +kernel, by decide +kernel⟩, by decide +kernel, Or.inl q131⟩
theorem il_L_12 : z_lkI "SomebodysLiftLaw" 12 M_X6_init 0 := ⟨cl_X6_init, q1441, rfl, rfl, rfl, ⟨by decide +kernel, by decide +kernel⟩, by decide +kernel, Or.inl q1440⟩
theorem vl_L_13_0 : z_lkV "SomebodysLiftLaw" 13 M_X0_lift 0 4 := ⟨cl_X0_lift, q392, _, rfl, Or.inl ⟨q391, q393, ⟨by decide +kernel, by decide +kernel⟩, by decide +kernel⟩⟩
theorem vl_L_17_6 : z_lkV "SomebodysLiftLaw" 17 M_X6_lift 6 4 := ⟨cl_X6_lift, q1659, _, rfl, Or.inl ⟨q1658, q1660, ⟨by decide +kernel, by decide +kernel⟩, by decide +kernel⟩⟩
theorem vl_L_18_0 : z_lkV "SomebodysLiftLaw" 18 M_X0_of 0 2 := ⟨cl_X0_of, q519, _, rfl, Or.inl ⟨q518, q520, ⟨by decide +kernel, by decide +kernel⟩, by decide +kernel⟩⟩
theorem vl_L_22_6 : z_lkV "SomebodysLiftLaw" 22 M_X6_of 6 2 := ⟨cl_X6_of, q1755, _, rfl, Or.inl ⟨q1754, q1756, ⟨by decide +kernel, by decide +kernel⟩, by decide +kernel⟩⟩
theorem vl_L_23_0 : z_lkV "SomebodysLiftLaw" 23 M_X0_pull 0 2 := ⟨cl_X0_pull, q634, _, rfl, Or.inl ⟨q633, q635, ⟨by decide +kernel, by decide +kernel⟩, by decide +kernel⟩⟩
theorem vl_L_26_6 : z_lkV "SomebodysLiftLaw" 26 M_X6_pull 6 2 := ⟨cl_X6_pull, q1671, _, rfl, Or.inl ⟨q1670, q1672, ⟨by decide +kernel, by decide +kernel⟩, by decide +kernel⟩⟩
theorem vl_L_27_0 : z_lkV "SomebodysLiftLaw" 27 M_X0_row 0 3 := ⟨cl_X0_row, q638, _, rfl, Or.inl ⟨q637, q639, ⟨by decide +kernel, by decide +kernel⟩, by decide +kernel⟩⟩
theorem vl_L_31_6 : z_lkV "SomebodysLiftLaw" 31 M_X6_row 6 3 := ⟨cl_X6_row, q1679, _, rfl, Or.inl ⟨q1678, q1680, ⟨by decide +kernel, by decide +kernel⟩, by decide +kernel⟩⟩
theorem vl_L_32_0 : z_lkV "SomebodysLiftLaw" 32 M_X0_feed 0 1 := ⟨cl_X0_feed, q642, _, rfl, Or.inl ⟨q641, q643, ⟨by decide +kernel, by decide +kernel⟩, by decide +kernel⟩⟩
theorem vl_L_36_6 : z_lkV "SomebodysLiftLaw" 36 M_X6_feed 6 1 := ⟨cl_X6_feed, q1691, _, rfl, Or.inl ⟨q1690, q1692, ⟨by decide +kernel, by decide +kernel⟩, by decide +kernel⟩⟩
theorem vl_L_37_0 : z_lkV "SomebodysLiftLaw" 37 M_X0_air 0 0 := ⟨cl_X0_air, q646, _, rfl, Or.inl ⟨q645, q647, ⟨by decide +kernel, by decide +kernel⟩, by decide +kernel⟩⟩
theorem vl_L_41_6 : z_lkV "SomebodysLiftLaw" 41 M_X6_air 6 0 := ⟨cl_X6_air, q1695, _, rfl, Or.inl ⟨q1694, q1696, ⟨by decide +kernel, by decide +kernel⟩, by decide +kernel⟩⟩
theorem vl_L_42_0 : z_lkV "SomebodysLiftLaw" 42 M_X0_home 0 1 := ⟨cl_X0_home, q993, _, rfl, Or.inl ⟨q992, q994, ⟨by decide +kernel, by decide +kernel⟩, by decide +kernel⟩⟩
theorem vl_L_45_6 : z_lkV "SomebodysLiftLaw" 45 M_X6_home 6 1 := ⟨cl_X6_home, q1683, _, rfl, Or.inl ⟨q1682, q1684, ⟨by decide +kernel, by decide +kernel⟩, by decide +kernel⟩⟩
theorem vl_L_46_0 : z_lkV "SomebodysLiftLaw" 46 M_X0_height 0 1 := ⟨cl_X0_height, q997, _, rfl, Or.inl ⟨q996, q998, ⟨by decide +kernel, by decide +kernel⟩, by decide +kernel⟩⟩
theorem vl_L_49_6 : z_lkV "SomebodysLiftLaw" 49 M_X6_height 6 1 := ⟨cl_X6_height, q1687, _, rfl, Or.inl ⟨q1686, q1688, ⟨by decide +kernel, by decide +kernel⟩, by decide +kernel⟩⟩
theorem vl_L_50_0 : z_lkV "SomebodysLiftLaw" 50 M_X0_told 0 1 := ⟨cl_X0_told, q1001, _, rfl, Or.inl ⟨q1000, q1002, ⟨by decide +kernel, by decide +kernel⟩, by decide +kernel⟩⟩
theorem vl_L_53_6 : z_lkV "SomebodysLiftLaw" 53 M_X6_told 6 1 := ⟨cl_X6_told, q1783, _, rfl, Or.inl ⟨q1782, q1784, ⟨by decide +kernel, by decide +kernel⟩, by decide +kernel⟩⟩
theorem vl_L_54_0 : z_lkV "SomebodysLiftLaw" 54 M_X0_enter 0 1 := ⟨cl_X0_enter, q1014, _, rfl, Or.inl ⟨q1013, q1015, ⟨by decide +kernel, by decide +kernel⟩, by decide +kernel⟩⟩
theorem vl_L_57_6 : z_lkV "SomebodysLiftLaw" 57 M_X6_enter 6 1 := ⟨cl_X6_enter, q1799, _, rfl, Or.inl ⟨q1798, q1800, ⟨by decide +kernel, by decide +kernel⟩, by decide +kernel⟩⟩
theorem vl_L_58_0 : z_lkV "SomebodysLiftLaw" 58 M_X0_turn 0 1 := ⟨cl_X0_turn, q1018, _, rfl, Or.inl ⟨q1017, q1019, ⟨by decide +kernel, by decide +kernel⟩, by decide +kernel⟩⟩
theorem vl_L_61_6 : z_lkV "SomebodysLiftLaw" 61 M_X6_turn 6 1 := ⟨cl_X6_turn, q1803, _, rfl, Or.inl ⟨q1802, q1804, ⟨by decide +kernel, by decide +kernel⟩, by decide +kernel⟩⟩
theorem vl_L_62_0 : z_lkV "SomebodysLiftLaw" 62 M_X0_glide 0 2 := ⟨cl_X0_glide, q1032, _, rfl, Or.inl ⟨q1031, q1033, ⟨by decide +kernel, by decide +kernel⟩, by decide +kernel⟩⟩
theorem vl_L_65_6 : z_lkV "SomebodysLiftLaw" 65 M_X6_glide 6 2 := ⟨cl_X6_glide, q1815, _, rfl, Or.inl ⟨q1814, q1816, ⟨by decide +kernel, by decide +kernel⟩, by decide +kernel⟩⟩
theorem vl_L_66_0 : z_lkV "SomebodysLiftLaw" 66 M_X0_up 0 2 := ⟨cl_X0_up, q1061, _, rfl, Or.inl ⟨q1060, q1062, ⟨by decide +kernel, by decide +kernel⟩, by decide +kernel⟩⟩
theorem vl_L_69_6 : z_lkV "SomebodysLiftLaw" 69 M_X6_up 6 2 := ⟨cl_X6_up, q1835, _, rfl, Or.inl ⟨q1834, q1836, ⟨by decide +kernel, by decide +kernel⟩, by decide +kernel⟩⟩
theorem vl_L_70_0 : z_lkV "SomebodysLiftLaw" 70 M_X0_top 0 2 := ⟨cl_X0_top, q1065, _, rfl, Or.inl ⟨q1064, q1066, ⟨by decide +kernel, by decide +kernel⟩, by decide +kernel⟩⟩
theorem vl_L_73_6 : z_lkV "SomebodysLiftLaw" 73 M_X6_top 6 2 := ⟨cl_X6_top, q1851, _, rfl, Or.inl ⟨q1850, q1852, ⟨by decide +kernel, by decide +kernel⟩, by decide +kernel⟩⟩
theorem vl_L_74_0 : z_lkV "SomebodysLiftLaw" 74 M_X0_arrives 0 2 := ⟨cl_X0_arrives, q1069, _, rfl, Or.inl ⟨q1068, q1070, ⟨by decide +kernel, by decide +kernel⟩, by decide +kernel⟩⟩
theorem vl_L_77_6 : z_lkV "SomebodysLiftLaw" 77 M_X6_arrives 6 2 := ⟨cl_X6_arrives, q1855, _, rfl, Or.inl ⟨q1854, q1856, ⟨by decide +kernel, by decide +kernel⟩, by decide +kernel⟩⟩
theorem vl_L_78_0 : z_lkV "SomebodysLiftLaw" 78 M_X0_outed 0 2 := ⟨cl_X0_outed, q1073, _, rfl, Or.inl ⟨q1072, q1074, ⟨by decide +kernel, by decide +kernel⟩, by decide +kernel⟩⟩
theorem vl_L_81_6 : z_lkV "SomebodysLiftLaw" 81 M_X6_outed 6 2 := ⟨cl_X6_outed, q1859, _, rfl, Or.inl ⟨q1858, q1860, ⟨by decide +kernel, by decide +kernel⟩, by decide +kernel⟩⟩
theorem vl_L_82_0 : z_lkV "SomebodysLiftLaw" 82 M_X0_reach 0 1 := ⟨cl_X0_reach, q1078, _, rfl, Or.inl ⟨q1077, q1079, ⟨by decide +kernel, by decide +kernel⟩, by decide +kernel⟩⟩
theorem vl_L_85_6 : z_lkV "SomebodysLiftLaw" 85 M_X6_reach 6 1 := ⟨cl_X6_reach, q1863, _, rfl, Or.inl ⟨q1862, q1864, ⟨by decide +kernel, by decide +kernel⟩, by decide +kernel⟩⟩
theorem vl_L_86_0 : z_lkV "SomebodysLiftLaw" 86 M_X0_next 0 1 := ⟨cl_X0_next, q1083, _, rfl, Or.inl ⟨q1082, q1084, ⟨by decide +kernel, by decide +kernel⟩, by decide +kernel⟩⟩
theorem vl_L_89_6 : z_lkV "SomebodysLiftLaw" 89 M_X6_next 6 1 := ⟨cl_X6_next, q1871, _, rfl, Or.inl ⟨q1870, q1872, ⟨by decide +kernel, by decide +kernel⟩, by decide +kernel⟩⟩
theorem vl_L_90_0 : z_lkV "SomebodysLiftLaw" 90 M_X0_lowest 0 2 := ⟨cl_X0_lowest, q1087, _, rfl, Or.inl ⟨q1086, q1088, ⟨by decide +kernel, by decide +kernel⟩, by decide +kernel⟩⟩
theorem vl_L_93_6 : z_lkV "SomebodysLiftLaw" 93 M_X6_lowest 6 2 := ⟨cl_X6_lowest, q1875, _, rfl, Or.inl ⟨q1874, q1876, ⟨by decide +kernel, by decide +kernel⟩, by decide +kernel⟩⟩
theorem vl_L_94_0 : z_lkV "SomebodysLiftLaw" 94 M_X0_by 0 3 := ⟨cl_X0_by, q1092, _, rfl, Or.inl ⟨q1091, q1093, ⟨by decide +kernel, by decide +kernel⟩, by decide +kernel⟩⟩
theorem vl_L_97_6 : z_lkV "SomebodysLiftLaw" 97 M_X6_by 6 3 := ⟨cl_X6_by, q1879, _, rfl, Or.inl ⟨q1878, q1880, ⟨by decide +kernel, by decide +kernel⟩, by decide +kernel⟩⟩
theorem vl_L_98_0 : z_lkV "SomebodysLiftLaw" 98 M_X0_straight 0 1 := ⟨cl_X0_straight, q1104, _, rfl, Or.inl ⟨q1103, q1105, ⟨by decide +kernel, by decide +kernel⟩, by decide +kernel⟩⟩
theorem vl_L_101_6 : z_lkV "SomebodysLiftLaw" 101 M_X6_straight 6 1 := ⟨cl_X6_straight, q1891, _, rfl, Or.inl ⟨q1890, q1892, ⟨by decide +kernel, by decide +kernel⟩, by decide +kernel⟩⟩
theorem vl_L_102_0 : z_lkV "SomebodysLiftLaw" 102 M_X0_best 0 1 := ⟨cl_X0_best, q1112, _, rfl, Or.inl ⟨q1111, q1113, ⟨by decide +kernel, by decide +kernel⟩, by decide +kernel⟩⟩
theorem vl_L_105_6 : z_lkV "SomebodysLiftLaw" 105 M_X6_best 6 1 := ⟨cl_X6_best, q1899, _, rfl, Or.inl ⟨q1898, q1900, ⟨by decide +kernel, by decide +kernel⟩, by decide +kernel⟩⟩
theorem vl_L_106_0 : z_lkV "SomebodysLiftLaw" 106 M_X0_two 0 2 := ⟨cl_X0_two, q1120, _, rfl, Or.inl ⟨q1119, q1121, ⟨by decide +kernel, by decide +kernel⟩, by decide +kernel⟩⟩
theorem vl_L_109_6 : z_lkV "SomebodysLiftLaw" 109 M_X6_two 6 2 := ⟨cl_X6_two, q1911, _, rfl, Or.inl ⟨q1910, q1912, ⟨by decide +kernel, by decide +kernel⟩, by decide +kernel⟩⟩
theorem vl_L_110_0 : z_lkV "SomebodysLiftLaw" 110 M_X0_worth 0 1 := ⟨cl_X0_worth, q1128, _, rfl, Or.inl ⟨q1127, q1129, ⟨by decide +kernel, by decide +kernel⟩, by decide +kernel⟩⟩
theorem vl_L_113_6 : z_lkV "SomebodysLiftLaw" 113 M_X6_worth 6 1 := ⟨cl_X6_worth, q1915, _, rfl, Or.inl ⟨q1914, q1916, ⟨by decide +kernel, by decide +kernel⟩, by decide +kernel⟩⟩
theorem vl_L_114_0 : z_lkV "SomebodysLiftLaw" 114 M_X0_leg 0 2 := ⟨cl_X0_leg, q1135, _, rfl, Or.inl ⟨q1134, q1136, ⟨by decide +kernel, by decide +kernel⟩, by decide +kernel⟩⟩
theorem vl_L_117_6 : z_lkV "SomebodysLiftLaw" 117 M_X6_leg 6 2 := ⟨cl_X6_leg, q1919, _, rfl, Or.inl ⟨q1918, q1920, ⟨by decide +kernel, by decide +kernel⟩, by decide +kernel⟩⟩
theorem vl_L_118_0 : z_lkV "SomebodysLiftLaw" 118 M_X0_flown 0 2 := ⟨cl_X0_flown, q1139, _, rfl, Or.inl ⟨q1138, q1140, ⟨by decide +kernel, by decide +kernel⟩, by decide +kernel⟩⟩
theorem vl_L_121_6 : z_lkV "SomebodysLiftLaw" 121 M_X6_flown 6 2 := ⟨cl_X6_flown, q1923, _, rfl, Or.inl ⟨q1922, q1924, ⟨by decide +kernel, by decide +kernel⟩, by decide +kernel⟩⟩
theorem vl_L_122_0 : z_lkV "SomebodysLiftLaw" 122 M_X0_see 0 1 := ⟨cl_X0_see, q1147, _, rfl, Or.inl ⟨q1146, q1148, ⟨by decide +kernel, by decide +kernel⟩, by decide +kernel⟩⟩
theorem vl_L_125_6 : z_lkV "SomebodysLiftLaw" 125 M_X6_see 6 1 := ⟨cl_X6_see, q1927, _, rfl, Or.inl ⟨q1926, q1928, ⟨by decide +kernel, by decide +kernel⟩, by decide +kernel⟩⟩
theorem vl_L_126_0 : z_lkV "SomebodysLiftLaw" 126 M_X0_who 0 0 := ⟨cl_X0_who, q1151, _, rfl, Or.inl ⟨q1150, q1152, ⟨by decide +kernel, by decide +kernel⟩, by decide +kernel⟩⟩
theorem vl_L_129_6 : z_lkV "SomebodysLiftLaw" 129 M_X6_who 6 0 := ⟨cl_X6_who, q1931, _, rfl, Or.inl ⟨q1930, q1932, ⟨by decide +kernel, by decide +kernel⟩, by decide +kernel⟩⟩
theorem vl_L_130_0 : z_lkV "SomebodysLiftLaw" 130 M_X0_odds 0 3 := ⟨cl_X0_odds, q1159, _, rfl, Or.inl ⟨q1158, q1160, ⟨by decide +kernel, by decide +kernel⟩, by decide +kernel⟩⟩
theorem vl_L_134_6 : z_lkV "SomebodysLiftLaw" 134 M_X6_odds 6 3 := ⟨cl_X6_odds, q1939, _, rfl, Or.inl ⟨q1938, q1940, ⟨by decide +kernel, by decide +kernel⟩, by decide +kernel⟩⟩
theorem vl_L_135_0 : z_lkV "SomebodysLiftLaw" 135 M_X0_mean 0 2 := ⟨cl_X0_mean, q1171, _, rfl, Or.inl ⟨q1170, q1172, ⟨by decide +kernel, by decide +kernel⟩, by decide +kernel⟩⟩
theorem vl_L_139_6 : z_lkV "SomebodysLiftLaw" 139 M_X6_mean 6 2 := ⟨cl_X6_mean, q1952, _, rfl, Or.inl ⟨q1951, q1953, ⟨by decide +kernel, by decide +kernel⟩, by decide +kernel⟩⟩
theorem vl_L_140_0 : z_lkV "SomebodysLiftLaw" 140 M_X0_book 0 2 := ⟨cl_X0_book, q1175, _, rfl, Or.inl ⟨q1174, q1176, ⟨by decide +kernel, by decide +kernel⟩, by decide +kernel⟩⟩
theorem vl_L_143_6 : z_lkV "SomebodysLiftLaw" 143 M_X6_book 6 2 := ⟨cl_X6_book, q1956, _, rfl, Or.inl ⟨q1955, q1957, ⟨by decide +kernel, by decide +kernel⟩, by decide +kernel⟩⟩
theorem vl_L_144_0 : z_lkV "SomebodysLiftLaw" 144 M_X0_looked 0 0 := ⟨cl_X0_looked, q1179, _, rfl, Or.inl ⟨q1178, q1180, ⟨by decide +kernel, by decide +kernel⟩, by decide +kernel⟩⟩
theorem vl_L_147_6 : z_lkV "SomebodysLiftLaw" 147 M_X6_looked 6 0 := ⟨cl_X6_looked, q1960, _, rfl, Or.inl ⟨q1959, q1961, ⟨by decide +kernel, by decide +kernel⟩, by decide +kernel⟩⟩
theorem vl_L_148_0 : z_lkV "SomebodysLiftLaw" 148 M_X0_judge 0 2 := ⟨cl_X0_judge, q1183, _, rfl, Or.inl ⟨q1182, q1184, ⟨by decide +kernel, by decide +kernel⟩, by decide +kernel⟩⟩
theorem vl_L_151_6 : z_lkV "SomebodysLiftLaw" 151 M_X6_judge 6 2 := ⟨cl_X6_judge, q1964, _, rfl, Or.inl ⟨q1963, q1965, ⟨by decide +kernel, by decide +kernel⟩, by decide +kernel⟩⟩
theorem vl_L_152_0 : z_lkV "SomebodysLiftLaw" 152 M_X0_image 0 0 := ⟨cl_X0_image, q1242, _, rfl, Or.inl ⟨q1241, q1243, ⟨by decide +kernel, by decide +kernel⟩, by decide +kernel⟩⟩
theorem vl_L_155_6 : z_lkV "SomebodysLiftLaw" 155 M_X6_image 6 0 := ⟨cl_X6_image, q1972, _, rfl, Or.inl ⟨q1971, q1973, ⟨by decide +kernel, by decide +kernel⟩, by decide +kernel⟩⟩
theorem vl_L_156_0 : z_lkV "SomebodysLiftLaw" 156 M_X0_undo 0 0 := ⟨cl_X0_undo, q1247, _, rfl, Or.inl ⟨q1246, q1248, ⟨by decide +kernel, by decide +kernel⟩, by decide +kernel⟩⟩
theorem vl_L_159_6 : z_lkV "SomebodysLiftLaw" 159 M_X6_undo 6 0 := ⟨cl_X6_undo, q1976, _, rfl, Or.inl ⟨q1975, q1977, ⟨by decide +kernel, by decide +kernel⟩, by decide +kernel⟩⟩
theorem vl_L_160_0 : z_lkV "SomebodysLiftLaw" 160 M_X0_act 0 3 := ⟨cl_X0_act, q1251, _, rfl, Or.inl ⟨q1250, q1252, ⟨by decide +kernel, by decide +kernel⟩, by decide +kernel⟩⟩
theorem vl_L_163_6 : z_lkV "SomebodysLiftLaw" 163 M_X6_act 6 3 := ⟨cl_X6_act, q1980, _, rfl, Or.inl ⟨q1979, q1981, ⟨by decide +kernel, by decide +kernel⟩, by decide +kernel⟩⟩
theorem vl_L_164_0 : z_lkV "SomebodysLiftLaw" 164 M_X0_trace 0 1 := ⟨cl_X0_trace, q1334, _, rfl, Or.inl ⟨q1333, q1335, ⟨by decide +kernel, by decide +kernel⟩, by decide +kernel⟩⟩
theorem vl_L_167_6 : z_lkV "SomebodysLiftLaw" 167 M_X6_trace 6 1 := ⟨cl_X6_trace, q2016, _, rfl, Or.inl ⟨q2015, q2017, ⟨by decide +kernel, by decide +kernel⟩, by decide +kernel⟩⟩
theorem vl_L_168_0 : z_lkV "SomebodysLiftLaw" 168 M_X0_taken 0 2 := ⟨cl_X0_taken, q1338, _, rfl, Or.inl ⟨q1337, q1339, ⟨by decide +kernel, by decide +kernel⟩, by decide +kernel⟩⟩
theorem vl_L_171_6 : z_lkV "SomebodysLiftLaw" 171 M_X6_taken 6 2 := ⟨cl_X6_taken, q2020, _, rfl, Or.inl ⟨q2019, q2021, ⟨by decide +kernel, by decide +kernel⟩, by decide +kernel⟩⟩
theorem vl_L_172_0 : z_lkV "SomebodysLiftLaw" 172 M_X0_count 0 1 := ⟨cl_X0_count, q1345, _, rfl, Or.inl ⟨q1344, q1346, ⟨by decide +kernel, by decide +kernel⟩, by decide +kernel⟩⟩
theorem vl_L_175_6 : z_lkV "SomebodysLiftLaw" 175 M_X6_count 6 1 := ⟨cl_X6_count, q2024, _, rfl, Or.inl ⟨q2023, q2025, ⟨by decide +kernel, by decide +kernel⟩, by decide +kernel⟩⟩
theorem vl_L_176_0 : z_lkV "SomebodysLiftLaw" 176 M_X0_tape 0 3 := ⟨cl_X0_tape, q1349, _, rfl, Or.inl ⟨q1348, q1350, ⟨by decide +kernel, by decide +kernel⟩, by decide +kernel⟩⟩
theorem vl_L_179_6 : z_lkV "SomebodysLiftLaw" 179 M_X6_tape 6 3 := ⟨cl_X6_tape, q2028, _, rfl, Or.inl ⟨q2027, q2029, ⟨by decide +kernel, by decide +kernel⟩, by decide +kernel⟩⟩
theorem vl_L_182_0 : z_lkV "SomebodysLiftLaw" 182 M_X0_item 0 3 := ⟨cl_X0_item, q1373, _, rfl, Or.inl ⟨q1372, q1374, ⟨by decide +kernel, by decide +kernel⟩, by decide +kernel⟩⟩
theorem vl_L_186_6 : z_lkV "SomebodysLiftLaw" 186 M_X6_item 6 3 := ⟨cl_X6_item, q2032, _, rfl, Or.inl ⟨q2031, q2033, ⟨by decide +kernel, by decide +kernel⟩, by decide +kernel⟩⟩
theorem vl_L_187_0 : z_lkV "SomebodysLiftLaw" 187 M_X0_read 0 2 := ⟨cl_X0_read, q1397, _, rfl, Or.inl ⟨q1396, q1398, ⟨by decide +kernel, by decide +kernel⟩, by decide +kernel⟩⟩
theorem vl_L_190_6 : z_lkV "SomebodysLiftLaw" 190 M_X6_read 6 2 := ⟨cl_X6_read, q2040, _, rfl, Or.inl ⟨q2039, q2041, ⟨by decide +kernel, by decide +kernel⟩, by decide +kernel⟩⟩
theorem vl_L_191_0 : z_lkV "SomebodysLiftLaw" 191 M_X0_shift 0 5 := ⟨cl_X0_shift, q1402, _, rfl, Or.inl ⟨q1401, q1403, ⟨by decide +kernel, by decide +kernel⟩, by decide +kernel⟩⟩
theorem vl_L_195_6 : z_lkV "SomebodysLiftLaw" 195 M_X6_shift 6 5 := ⟨cl_X6_shift, q2044, _, rfl, Or.inl ⟨q2043, q2045, ⟨by decide +kernel, by decide +kernel⟩, by decide +kernel⟩⟩
theorem fl_X0_17_0 : z_Fl RX0 17 0 0 := ⟨_, _, rfl, by decide, Or.inl q270, Or.inl rfl⟩
theorem pf_X0_init_17_0 : z_Pl yX0_init 17 0 0 := ⟨fl_X0_17_0, fun q hq => by cases hq; exact Or.inr ⟨⟨rfl, rfl, rfl⟩, _, q270, rfl⟩⟩
theorem fl_X0_21_0 : z_Fl RX0 21 0 1 := ⟨_, _, rfl, by decide, Or.inl q271, Or.inl rfl⟩
theorem pf_X0_init_21_0 : z_Pl yX0_init 21 0 1 := ⟨fl_X0_21_0, fun q hq => by cases hq; exact Or.inr ⟨⟨rfl, rfl, rfl⟩, _, q271, rfl⟩⟩
theorem fl_X0_25_0 : z_Fl RX0 25 0 2 := ⟨_, _, rfl, by decide, Or.inl q272, Or.inl rfl⟩
theorem pf_X0_init_25_0 : z_Pl yX0_init 25 0 2 := ⟨fl_X0_25_0, fun q hq => by cases hq; exact Or.inr ⟨⟨rfl, rfl, rfl⟩, _, q272, rfl⟩⟩
theorem il_X0_30 : z_lkI RX0 30 M_X1_init 0 := ⟨cl_X1_init, q142, rfl, rfl, rfl, ⟨by decide +kernel, by decide +kernel⟩, by decide +kernel, Or.inr ⟨_, q141⟩⟩
theorem fl_X0_31_0 : z_Fl RX0 31 0 4 := ⟨_, _, rfl, by decide, Or.inl q274, Or.inl rfl⟩
theorem pf_X0_init_31_0 : z_Pl yX0_init 31 0 4 := ⟨fl_X0_31_0, fun q hq => by cases hq; exact Or.inr ⟨⟨rfl, rfl, rfl⟩, _, q274, rfl⟩⟩
theorem fl_X0_35_0 : z_Fl RX0 35 0 5 := ⟨_, _, rfl, by decide, Or.inl q275, Or.inl rfl⟩
theorem pf_X0_init_35_0 : z_Pl yX0_init 35 0 5 := ⟨fl_X0_35_0, fun q hq => by cases hq; exact Or.inr ⟨⟨rfl, rfl, rfl⟩, _, q275, rfl⟩⟩
theorem fl_X0_38_0 : z_Fl RX0 38 0 6 := ⟨_, _, rfl, by decide, Or.inl q276, Or.inl rfl⟩
theorem pl_X0_38_0 {y : MethodName} (hy : y.cls = RX0) : z_Pl y 38 0 6 := ⟨by rw [hy]; exact fl_X0_38_0, fun q hq => by cases hq; exact Or.inl rfl⟩
theorem fl_X0_42_0 : z_Fl RX0 42 0 7 := ⟨_, _, rfl, by decide, Or.inl q277, Or.inl rfl⟩
theorem pf_X0_init_42_0 : z_Pl yX0_init 42 0 7 := ⟨fl_X0_42_0, fun q hq => by cases hq; exact Or.inr ⟨⟨rfl, rfl, rfl⟩, _, q277, rfl⟩⟩
theorem il_X0_48 : z_lkI RX0 48 M_X2_init 0 := ⟨cl_X2_init, q166, rfl, rfl, rfl, ⟨by decide +kernel, by decide +kernel⟩, by decide +kernel, Or.inr ⟨_, q165⟩⟩
theorem fl_X0_49_0 : z_Fl RX0 49 0 10 := ⟨_, _, rfl, by decide, Or.inl q280, Or.inl rfl⟩
theorem pl_X0_49_0 {y : MethodName} (hy : y.cls = RX0) : z_Pl y 49 0 10 := ⟨by rw [hy]; exact fl_X0_49_0, fun q hq => by cases hq; exact Or.inl rfl⟩
theorem il_X0_55 : z_lkI RX0 55 M_X3_init 0 := ⟨cl_X3_init, q215, rfl, rfl, rfl, ⟨by decide +kernel, by decide +kernel⟩, by decide +kernel, Or.inr ⟨_, q214⟩⟩
theorem fl_X0_56_0 : z_Fl RX0 56 0 11 := ⟨_, _, rfl, by decide, Or.inl q281, Or.inl rfl⟩
theorem pf_X0_init_56_0 : z_Pl yX0_init 56 0 11 := ⟨fl_X0_56_0, fun q hq => by cases hq; exact Or.inr ⟨⟨rfl, rfl, rfl⟩, _, q281, rfl⟩⟩
theorem il_X0_62 : z_lkI RX0 62 M_X4_init 0 := ⟨cl_X4_init, q246, rfl, rfl, rfl, ⟨by decide +kernel, by decide +kernel⟩, by decide +kernel, Or.inr ⟨_, q245⟩⟩
theorem fl_X0_63_0 : z_Fl RX0 63 0 12 := ⟨_, _, rfl, by decide, Or.inl q282, Or.inl rfl⟩
theorem pf_X0_init_63_0 : z_Pl yX0_init 63 0 12 := ⟨fl_X0_63_0, fun q hq => by cases hq; exact Or.inr ⟨⟨rfl, rfl, rfl⟩, _, q282, rfl⟩⟩
theorem fl_X0_67_0 : z_Fl RX0 67 0 13 := ⟨_, _, rfl, by decide, Or.inl q283, Or.inl rfl⟩
theorem pf_X0_init_67_0 : z_Pl yX0_init 67 0 13 := ⟨fl_X0_67_0, fun q hq => by cases hq; exact Or.inr ⟨⟨rfl, rfl, rfl⟩, _, q283, rfl⟩⟩
theorem fl_X0_70_0 : z_Fl RX0 70 0 14 := ⟨_, _, rfl, by decide, Or.inl q284, Or.inl rfl⟩
theorem pf_X0_init_70_0 : z_Pl yX0_init 70 0 14 := ⟨fl_X0_70_0, fun q hq => by cases hq; exact Or.inr ⟨⟨rfl, rfl, rfl⟩, _, q284, rfl⟩⟩
theorem fl_X0_73_0 : z_Fl RX0 73 0 15 := ⟨_, _, rfl, by decide, Or.inl q285, Or.inl rfl⟩
theorem pf_X0_init_73_0 : z_Pl yX0_init 73 0 15 := ⟨fl_X0_73_0, fun q hq => by cases hq; exact Or.inr ⟨⟨rfl, rfl, rfl⟩, _, q285, rfl⟩⟩
theorem fl_X0_76_0 : z_Fl RX0 76 0 16 := ⟨_, _, rfl, by decide, Or.inl q286, Or.inl rfl⟩
theorem pf_X0_init_76_0 : z_Pl yX0_init 76 0 16 := ⟨fl_X0_76_0, fun q hq => by cases hq; exact Or.inr ⟨⟨rfl, rfl, rfl⟩, _, q286, rfl⟩⟩
theorem fl_X0_79_0 : z_Fl RX0 79 0 17 := ⟨_, _, rfl, by decide, Or.inl q287, Or.inl rfl⟩
theorem pf_X0_init_79_0 : z_Pl yX0_init 79 0 17 := ⟨fl_X0_79_0, fun q hq => by cases hq; exact Or.inr ⟨⟨rfl, rfl, rfl⟩, _, q287, rfl⟩⟩
theorem fl_X0_84_0 : z_Fl RX0 84 0 21 := ⟨_, _, rfl, by decide, Or.inl q291, Or.inl rfl⟩
theorem pf_X0_init_84_0 : z_Pl yX0_init 84 0 21 := ⟨fl_X0_84_0, fun q hq => by cases hq; exact Or.inr ⟨⟨rfl, rfl, rfl⟩, _, q291, rfl⟩⟩
theorem fl_X0_88_0 : z_Fl RX0 88 0 25 := ⟨_, _, rfl, by decide, Or.inl q295, Or.inl rfl⟩
theorem pf_X0_init_88_0 : z_Pl yX0_init 88 0 25 := ⟨fl_X0_88_0, fun q hq => by cases hq; exact Or.inr ⟨⟨rfl, rfl, rfl⟩, _, q295, rfl⟩⟩
theorem fl_X0_91_0 : z_Fl RX0 91 0 26 := ⟨_, _, rfl, by decide, Or.inl q296, Or.inl rfl⟩
theorem pf_X0_init_91_0 : z_Pl yX0_init 91 0 26 := ⟨fl_X0_91_0, fun q hq => by cases hq; exact Or.inr ⟨⟨rfl, rfl, rfl⟩, _, q296, rfl⟩⟩
theorem fl_X0_94_0 : z_Fl RX0 94 0 27 := ⟨_, _, rfl, by decide, Or.inl q297, Or.inl rfl⟩
theorem pf_X0_init_94_0 : z_Pl yX0_init 94 0 27 := ⟨fl_X0_94_0, fun q hq => by cases hq; exact Or.inr ⟨⟨rfl, rfl, rfl⟩, _, q297, rfl⟩⟩
theorem fl_X0_97_0 : z_Fl RX0 97 0 28 := ⟨_, _, rfl, by decide, Or.inl q298, Or.inl rfl⟩
theorem pf_X0_init_97_0 : z_Pl yX0_init 97 0 28 := ⟨fl_X0_97_0, fun q hq => by cases hq; exact Or.inr ⟨⟨rfl, rfl, rfl⟩, _, q298, rfl⟩⟩
theorem fl_X0_100_0 : z_Fl RX0 100 0 29 := ⟨_, _, rfl, by decide, Or.inl q299, Or.inl rfl⟩
theorem pf_X0_init_100_0 : z_Pl yX0_init 100 0 29 := ⟨fl_X0_100_0, fun q hq => by cases hq; exact Or.inr ⟨⟨rfl, rfl, rfl⟩, _, q299, rfl⟩⟩
theorem fl_X0_103_0 : z_Fl RX0 103 0 30 := ⟨_, _, rfl, by decide, Or.inl q300, Or.inl rfl⟩
theorem pf_X0_init_103_0 : z_Pl yX0_init 103 0 30 := ⟨fl_X0_103_0, fun q hq => by cases hq; exact Or.inr ⟨⟨rfl, rfl, rfl⟩, _, q300, rfl⟩⟩
theorem fl_X0_106_0 : z_Fl RX0 106 0 31 := ⟨_, _, rfl, by decide, Or.inl q301, Or.inl rfl⟩
theorem pf_X0_init_106_0 : z_Pl yX0_init 106 0 31 := ⟨fl_X0_106_0, fun q hq => by cases hq; exact Or.inr ⟨⟨rfl, rfl, rfl⟩, _, q301, rfl⟩⟩
theorem fl_X0_109_0 : z_Fl RX0 109 0 32 := ⟨_, _, rfl, by decide, Or.inl q302, Or.inl rfl⟩
theorem pf_X0_init_109_0 : z_Pl yX0_init 109 0 32 := ⟨fl_X0_109_0, fun q hq => by cases hq; exact Or.inr ⟨⟨rfl, rfl, rfl⟩, _, q302, rfl⟩⟩
theorem fl_X0_112_0 : z_Fl RX0 112 0 33 := ⟨_, _, rfl, by decide, Or.inl q303, Or.inl rfl⟩
theorem pf_X0_init_112_0 : z_Pl yX0_init 112 0 33 := ⟨fl_X0_112_0, fun q hq => by cases hq; exact Or.inr ⟨⟨rfl, rfl, rfl⟩, _, q303, rfl⟩⟩
theorem il_X0_115 : z_lkI RX0 115 M_X5_init 0 := ⟨cl_X5_init, q262, rfl, rfl, rfl, ⟨by decide +kernel, by decide +kernel⟩, by decide +kernel, Or.inr ⟨_, q261⟩⟩
theorem sl_X0_5 : z_lkS RX0 5 M_X0_in 3 := ⟨cl_X0_in, q396, ⟨by decide +kernel, by decide +kernel⟩, by decide +kernel, Or.inl q395⟩
theorem sl_X0_142 : z_lkS RX0 142 M_X0_isMile 1 := ⟨cl_X0_isMile, q399, ⟨by decide +kernel, by decide +kernel⟩, by decide +kernel, Or.inl q398⟩
theorem fl_X0_116_0 : z_Fl RX0 116 0 3 := ⟨_, _, rfl, by decide, Or.inl q273, Or.inl rfl⟩
theorem pl_X0_116_0 {y : MethodName} (hy : y.cls = RX0) : z_Pl y 116 0 3 := ⟨by rw [hy]; exact fl_X0_116_0, fun q hq => by cases hq; exact Or.inl rfl⟩
theorem vl_X0_146_0 : z_lkV RX0 146 M_X0_liftOf 0 3 := ⟨cl_X0_liftOf, q403, _, rfl, Or.inl ⟨q401, qs0, ⟨by decide +kernel, by decide +kernel⟩, by decide +kernel⟩⟩
theorem il_X0_121 : z_lkI RX0 121 M_X8_init 4 := ⟨cl_X8_init, q408, rfl, rfl, rfl, ⟨by decide +kernel, by decide +kernel⟩, by decide +kernel, Or.inl q407⟩
theorem il_X0_126 : z_lkI RX0 126 M_X9_init 4 := ⟨cl_X9_init, q456, rfl, rfl, rfl, ⟨by decide +kernel, by decide +kernel⟩, by decide +kernel, Or.inl q455⟩
theorem il_X0_129 : z_lkI RX0 129 M_X10_init 4 := ⟨cl_X10_init, q467, rfl, rfl, rfl, ⟨by decide +kernel, by decide +kernel⟩, by decide +kernel, Or.inl q466⟩
theorem il_X0_132 : z_lkI RX0 132 M_X11_init 4 := ⟨cl_X11_init, q478, rfl, rfl, rfl, ⟨by decide +kernel, by decide +kernel⟩, by decide +kernel, Or.inl q477⟩
theorem il_X0_135 : z_lkI RX0 135 M_X12_init 4 := ⟨cl_X12_init, q489, rfl, rfl, rfl, ⟨by decide +kernel, by decide +kernel⟩, by decide +kernel, Or.inl q488⟩
theorem il_X0_138 : z_lkI RX0 138 M_X13_init 5 := ⟨cl_X13_init, q500, rfl, rfl, rfl, ⟨by decide +kernel, by decide +kernel⟩, by decide +kernel, Or.inl q499⟩
theorem il_X0_141 : z_lkI RX0 141 M_X7_init 4 := ⟨cl_X7_init, q411, rfl, rfl, rfl, ⟨by decide +kernel, by decide +kernel⟩, by decide +kernel, Or.inl q512⟩
theorem vl_X0_193_0 : z_lkV RX0 193 M_X0_isLift 0 1 := ⟨cl_X0_isLift, q524, _, rfl, Or.inl ⟨q522, qs1, ⟨by decide +kernel, by decide +kernel⟩, by decide +kernel⟩⟩
theorem vl_X0_153_10 : z_lkV RX0 153 M_X10_kind 10 0 := ⟨cl_X10_kind, q534, _, rfl, Or.inr (Or.inr ⟨⟨"SomebodysLift$Lift", "kind", "()I"⟩, _, q526, q529, Or.inr ⟨q527, _, _, _, q548⟩, ⟨by decide +kernel, by decide +kernel⟩, q533, by decide +kernel⟩)⟩
theorem vl_X0_153_11 : z_lkV RX0 153 M_X11_kind 11 0 := ⟨cl_X11_kind, q531, _, rfl, Or.inr (Or.inr ⟨⟨"SomebodysLift$Lift", "kind", "()I"⟩, _, q526, q529, Or.inr ⟨q527, _, _, _, q548⟩, ⟨by decide +kernel, by decide +kernel⟩, q530, by decide +kernel⟩)⟩
theorem vl_X0_153_12 : z_lkV RX0 153 M_X12_kind 12 0 := ⟨cl_X12_kind, q543, _, rfl, Or.inr (Or.inr ⟨⟨"SomebodysLift$Lift", "kind", "()I"⟩, _, q526, q529, Or.inr ⟨q527, _, _, _, q548⟩, ⟨by decide +kernel, by decide +kernel⟩, q542, by decide +kernel⟩)⟩
theorem vl_X0_153_13 : z_lkV RX0 153 M_X13_kind 13 0 := ⟨cl_X13_kind, q540, _, rfl, Or.inr (Or.inr ⟨⟨"SomebodysLift$Lift", "kind", "()I"⟩, _, q526, q529, Or.inr ⟨q527, _, _, _, q548⟩, ⟨by decide +kernel, by decide +kernel⟩, q539, by decide +kernel⟩)⟩
theorem vl_X0_153_7 : z_lkV RX0 153 M_X7_kind 7 0 := ⟨cl_X7_kind, q527, _, rfl, Or.inl ⟨q526, q528, ⟨by decide +kernel, by decide +kernel⟩, by decide +kernel⟩⟩
theorem vl_X0_153_8 : z_lkV RX0 153 M_X8_kind 8 0 := ⟨cl_X8_kind, q537, _, rfl, Or.inr (Or.inr ⟨⟨"SomebodysLift$Lift", "kind", "()I"⟩, _, q526, q529, Or.inr ⟨q527, _, _, _, q548⟩, ⟨by decide +kernel, by decide +kernel⟩, q536, by decide +kernel⟩)⟩
theorem vl_X0_153_9 : z_lkV RX0 153 M_X9_kind 9 0 := ⟨cl_X9_kind, q546, _, rfl, Or.inr (Or.inr ⟨⟨"SomebodysLift$Lift", "kind", "()I"⟩, _, q526, q529, Or.inr ⟨q527, _, _, _, q548⟩, ⟨by decide +kernel, by decide +kernel⟩, q545, by decide +kernel⟩)⟩
theorem fl_X0_173_10 : z_Fl RX0 173 10 2 := ⟨_, _, rfl, by decide, Or.inl q441, Or.inl rfl⟩
theorem fl_X0_173_11 : z_Fl RX0 173 11 2 := ⟨_, _, rfl, by decide, Or.inl q441, Or.inl rfl⟩
theorem fl_X0_173_12 : z_Fl RX0 173 12 2 := ⟨_, _, rfl, by decide, Or.inl q441, Or.inl rfl⟩
theorem fl_X0_173_13 : z_Fl RX0 173 13 2 := ⟨_, _, rfl, by decide, Or.inl q441, Or.inl rfl⟩
theorem fl_X0_173_7 : z_Fl RX0 173 7 2 := ⟨_, _, rfl, by decide, Or.inl q441, Or.inl rfl⟩
theorem fl_X0_173_8 : z_Fl RX0 173 8 2 := ⟨_, _, rfl, by decide, Or.inl q441, Or.inl rfl⟩
theorem fl_X0_173_9 : z_Fl RX0 173 9 2 := ⟨_, _, rfl, by decide, Or.inl q441, Or.inl rfl⟩
theorem fl_X0_177_10 : z_Fl RX0 177 10 3 := ⟨_, _, rfl, by decide, Or.inl q443, Or.inl rfl⟩
theorem fl_X0_177_11 : z_Fl RX0 177 11 3 := ⟨_, _, rfl, by decide, Or.inl q443, Or.inl rfl⟩
theorem fl_X0_177_12 : z_Fl RX0 177 12 3 := ⟨_, _, rfl, by decide, Or.inl q443, Or.inl rfl⟩
theorem fl_X0_177_13 : z_Fl RX0 177 13 3 := ⟨_, _, rfl, by decide, Or.inl q443, Or.inl rfl⟩
theorem fl_X0_177_7 : z_Fl RX0 177 7 3 := ⟨_, _, rfl, by decide, Or.inl q443, Or.inl rfl⟩
theorem fl_X0_177_8 : z_Fl RX0 177 8 3 := ⟨_, _, rfl, by decide, Or.inl q443, Or.inl rfl⟩
theorem fl_X0_177_9 : z_Fl RX0 177 9 3 := ⟨_, _, rfl, by decide, Or.inl q443, Or.inl rfl⟩
theorem vl_X0_185_0 : z_lkV RX0 185 M_X0_gainOf 0 2 := ⟨cl_X0_gainOf, q551, _, rfl, Or.inl ⟨q549, qs2, ⟨by decide +kernel, by decide +kernel⟩, by decide +kernel⟩⟩
theorem vl_X0_196_0 : z_lkV RX0 196 M_X0_climbOf 0 2 := ⟨cl_X0_climbOf, q602, _, rfl, Or.inl ⟨q600, qs3, ⟨by decide +kernel, by decide +kernel⟩, by decide +kernel⟩⟩
theorem fl_X0_150_3 : z_Fl RX0 150 3 0 := ⟨_, _, rfl, by decide, Or.inr ⟨_, q219⟩, Or.inl rfl⟩
theorem pl_X0_150_3 {y : MethodName} (hy : y.cls = RX0) : z_Pl y 150 3 0 := ⟨by rw [hy]; exact fl_X0_150_3, fun q hq => by cases hq; exact Or.inl rfl⟩
theorem fl_X0_157_3 : z_Fl RX0 157 3 1 := ⟨_, _, rfl, by decide, Or.inr ⟨_, q221⟩, Or.inl rfl⟩
theorem pl_X0_157_3 {y : MethodName} (hy : y.cls = RX0) : z_Pl y 157 3 1 := ⟨by rw [hy]; exact fl_X0_157_3, fun q hq => by cases hq; exact Or.inl rfl⟩
theorem fl_X0_159_1 : z_Fl RX0 159 1 1 := ⟨_, _, rfl, by decide, Or.inr ⟨_, q148⟩, Or.inl rfl⟩
theorem pl_X0_159_1 {y : MethodName} (hy : y.cls = RX0) : z_Pl y 159 1 1 := ⟨by rw [hy]; exact fl_X0_159_1, fun q hq => by cases hq; exact Or.inl rfl⟩
theorem fl_X0_162_3 : z_Fl RX0 162 3 2 := ⟨_, _, rfl, by decide, Or.inr ⟨_, q223⟩, Or.inl rfl⟩
theorem pl_X0_162_3 {y : MethodName} (hy : y.cls = RX0) : z_Pl y 162 3 2 := ⟨by rw [hy]; exact fl_X0_162_3, fun q hq => by cases hq; exact Or.inl rfl⟩
theorem fl_X0_163_1 : z_Fl RX0 163 1 2 := ⟨_, _, rfl, by decide, Or.inr ⟨_, q150⟩, Or.inl rfl⟩
theorem pl_X0_163_1 {y : MethodName} (hy : y.cls = RX0) : z_Pl y 163 1 2 := ⟨by rw [hy]; exact fl_X0_163_1, fun q hq => by cases hq; exact Or.inl rfl⟩
theorem sl_X0_166 : z_lkS RX0 166 M_J3_min 2 := ⟨cl_J3_min, q554, ⟨by decide +kernel, by decide +kernel⟩, by decide +kernel, Or.inl q553⟩
theorem fl_X0_172_3 : z_Fl RX0 172 3 3 := ⟨_, _, rfl, by decide, Or.inr ⟨_, q225⟩, Or.inl rfl⟩
theorem pl_X0_172_3 {y : MethodName} (hy : y.cls = RX0) : z_Pl y 172 3 3 := ⟨by rw [hy]; exact fl_X0_172_3, fun q hq => by cases hq; exact Or.inl rfl⟩
theorem fl_X0_176_3 : z_Fl RX0 176 3 4 := ⟨_, _, rfl, by decide, Or.inr ⟨_, q227⟩, Or.inl rfl⟩
theorem pl_X0_176_3 {y : MethodName} (hy : y.cls = RX0) : z_Pl y 176 3 4 := ⟨by rw [hy]; exact fl_X0_176_3, fun q hq => by cases hq; exact Or.inl rfl⟩
theorem fl_X0_180_3 : z_Fl RX0 180 3 5 := ⟨_, _, rfl, by decide, Or.inr ⟨_, q229⟩, Or.inl rfl⟩
theorem pl_X0_180_3 {y : MethodName} (hy : y.cls = RX0) : z_Pl y 180 3 5 := ⟨by rw [hy]; exact fl_X0_180_3, fun q hq => by cases hq; exact Or.inl rfl⟩
theorem vl_X0_181_2 : z_lkV RX0 181 M_X2_more 2 1 := ⟨cl_X2_more, q557, _, rfl, Or.inl ⟨q556, q558, ⟨by decide +kernel, by decide +kernel⟩, by decide +kernel⟩⟩
theorem vl_X0_189_10 : z_lkV RX0 189 M_X10_climb 10 3 := ⟨cl_X10_climb, q616, _, rfl, Or.inr (Or.inr ⟨⟨"SomebodysLift$Lift", "climb", "(III)I"⟩, _, q604, q607, Or.inr ⟨q605, _, _, _, q632⟩, ⟨by decide +kernel, by decide +kernel⟩, q615, by decide +kernel⟩)⟩
theorem vl_X0_189_11 : z_lkV RX0 189 M_X11_climb 11 3 := ⟨cl_X11_climb, q609, _, rfl, Or.inr (Or.inr ⟨⟨"SomebodysLift$Lift", "climb", "(III)I"⟩, _, q604, q607, Or.inr ⟨q605, _, _, _, q632⟩, ⟨by decide +kernel, by decide +kernel⟩, q608, by decide +kernel⟩)⟩
theorem vl_X0_189_12 : z_lkV RX0 189 M_X12_climb 12 3 := ⟨cl_X12_climb, q625, _, rfl, Or.inr (Or.inr ⟨⟨"SomebodysLift$Lift", "climb", "(III)I"⟩, _, q604, q607, Or.inr ⟨q605, _, _, _, q632⟩, ⟨by decide +kernel, by decide +kernel⟩, q624, by decide +kernel⟩)⟩
theorem vl_X0_189_13 : z_lkV RX0 189 M_X13_climb 13 3 := ⟨cl_X13_climb, q621, _, rfl, Or.inr (Or.inr ⟨⟨"SomebodysLift$Lift", "climb", "(III)I"⟩, _, q604, q607, Or.inr ⟨q605, _, _, _, q632⟩, ⟨by decide +kernel, by decide +kernel⟩, q620, by decide +kernel⟩)⟩
theorem vl_X0_189_7 : z_lkV RX0 189 M_X7_climb 7 3 := ⟨cl_X7_climb, q605, _, rfl, Or.inl ⟨q604, q606, ⟨by decide +kernel, by decide +kernel⟩, by decide +kernel⟩⟩
theorem vl_X0_189_8 : z_lkV RX0 189 M_X8_climb 8 3 := ⟨cl_X8_climb, q612, _, rfl, Or.inr (Or.inr ⟨⟨"SomebodysLift$Lift", "climb", "(III)I"⟩, _, q604, q607, Or.inr ⟨q605, _, _, _, q632⟩, ⟨by decide +kernel, by decide +kernel⟩, q619, by decide +kernel⟩)⟩
theorem vl_X0_189_9 : z_lkV RX0 189 M_X9_climb 9 3 := ⟨cl_X9_climb, q628, _, rfl, Or.inr (Or.inr ⟨⟨"SomebodysLift$Lift", "climb", "(III)I"⟩, _, q604, q607, Or.inr ⟨q605, _, _, _, q632⟩, ⟨by decide +kernel, by decide +kernel⟩, q631, by decide +kernel⟩)⟩
theorem fl_X0_199_0 : z_Fl RX0 199 0 8 := ⟨_, _, rfl, by decide, Or.inl q278, Or.inl rfl⟩
theorem pl_X0_199_0 {y : MethodName} (hy : y.cls = RX0) : z_Pl y 199 0 8 := ⟨by rw [hy]; exact fl_X0_199_0, fun q hq => by cases hq; exact Or.inl rfl⟩
theorem fl_X0_202_0 : z_Fl RX0 202 0 9 := ⟨_, _, rfl, by decide, Or.inl q279, Or.inl rfl⟩
theorem pl_X0_202_0 {y : MethodName} (hy : y.cls = RX0) : z_Pl y 202 0 9 := ⟨by rw [hy]; exact fl_X0_202_0, fun q hq => by cases hq; exact Or.inl rfl⟩
theorem il_X0_207 : z_lkI RX0 207 M_X14_init 2 := ⟨cl_X14_init, q653, rfl, rfl, rfl, ⟨by decide +kernel, by decide +kernel⟩, by decide +kernel, Or.inl q652⟩
theorem vl_X0_210_14 : z_lkV RX0 210 M_X14_air 14 0 := ⟨cl_X14_air, q675, _, rfl, Or.inl ⟨q674, q676, ⟨by decide +kernel, by decide +kernel⟩, by decide +kernel⟩⟩
theorem fl_X0_215_15 : z_Fl RX0 215 15 6 := ⟨_, _, rfl, by decide, Or.inr ⟨_, q817⟩, Or.inl rfl⟩
theorem fl_X0_218_1 : z_Fl RX0 218 1 0 := ⟨_, _, rfl, by decide, Or.inr ⟨_, q146⟩, Or.inl rfl⟩
theorem pl_X0_218_1 {y : MethodName} (hy : y.cls = RX0) : z_Pl y 218 1 0 := ⟨by rw [hy]; exact fl_X0_218_1, fun q hq => by cases hq; exact Or.inl rfl⟩
theorem fl_X0_219_1 : z_Fl RX0 219 1 3 := ⟨_, _, rfl, by decide, Or.inr ⟨_, q152⟩, Or.inl rfl⟩
theorem pl_X0_219_1 {y : MethodName} (hy : y.cls = RX0) : z_Pl y 219 1 3 := ⟨by rw [hy]; exact fl_X0_219_1, fun q hq => by cases hq; exact Or.inl rfl⟩
theorem vl_X0_221_2 : z_lkV RX0 221 M_X2_top 2 0 := ⟨cl_X2_top, q1005, _, rfl, Or.inl ⟨q1004, q1006, ⟨by decide +kernel, by decide +kernel⟩, by decide +kernel⟩⟩
theorem vl_X0_224_2 : z_lkV RX0 224 M_X2_safely 2 0 := ⟨cl_X2_safely, q1010, _, rfl, Or.inl ⟨q1009, q1011, ⟨by decide +kernel, by decide +kernel⟩, by decide +kernel⟩⟩
theorem vl_X0_231_0 : z_lkV RX0 231 M_X0_turns 0 3 := ⟨cl_X0_turns, q1023, _, rfl, Or.inl ⟨q1021, qs21, ⟨by decide +kernel, by decide +kernel⟩, by decide +kernel⟩⟩
theorem vl_X0_227_1 : z_lkV RX0 227 M_X1_climbs 1 2 := ⟨cl_X1_climbs, q1026, _, rfl, Or.inl ⟨q1025, q1027, ⟨by decide +kernel, by decide +kernel⟩, by decide +kernel⟩⟩
theorem sl_X0_238 : z_lkS RX0 238 M_X0_isGlide 2 := ⟨cl_X0_isGlide, q1036, ⟨by decide +kernel, by decide +kernel⟩, by decide +kernel, Or.inl q1035⟩
theorem vl_X0_242_1 : z_lkV RX0 242 M_X1_takes 1 1 := ⟨cl_X1_takes, q1042, _, rfl, Or.inl ⟨q1041, q1043, ⟨by decide +kernel, by decide +kernel⟩, by decide +kernel⟩⟩
theorem vl_X0_246_1 : z_lkV RX0 246 M_X1_glides 1 2 := ⟨cl_X1_glides, q1046, _, rfl, Or.inl ⟨q1045, q1047, ⟨by decide +kernel, by decide +kernel⟩, by decide +kernel⟩⟩
theorem sl_X0_235 : z_lkS RX0 235 M_X0_isPace 1 := ⟨cl_X0_isPace, q1039, ⟨by decide +kernel, by decide +kernel⟩, by decide +kernel, Or.inl q1038⟩
theorem sl_X0_249 : z_lkS RX0 249 M_J3_abs 1 := ⟨cl_J3_abs, q1058, ⟨by decide +kernel, by decide +kernel⟩, by decide +kernel, Or.inl q1076⟩
theorem vl_X0_253_1 : z_lkV RX0 253 M_X1_reaches 1 3 := ⟨cl_X1_reaches, q1050, _, rfl, Or.inl ⟨q1081, q1051, ⟨by decide +kernel, by decide +kernel⟩, by decide +kernel⟩⟩
theorem vl_X0_256_1 : z_lkV RX0 256 M_X1_needs 1 2 := ⟨cl_X1_needs, q1054, _, rfl, Or.inl ⟨q1090, q1055, ⟨by decide +kernel, by decide +kernel⟩, by decide +kernel⟩⟩
theorem vl_X0_266_0 : z_lkV RX0 266 M_X0_minutesBy 0 2 := ⟨cl_X0_minutesBy, q1097, _, rfl, Or.inl ⟨q1095, qs22, ⟨by decide +kernel, by decide +kernel⟩, by decide +kernel⟩⟩
theorem fl_X0_263_0 : z_Fl RX0 263 0 22 := ⟨_, _, rfl, by decide, Or.inl q292, Or.inl rfl⟩
theorem pl_X0_263_0 {y : MethodName} (hy : y.cls = RX0) : z_Pl y 263 0 22 := ⟨by rw [hy]; exact fl_X0_263_0, fun q hq => by cases hq; exact Or.inl rfl⟩
theorem vl_X0_259_0 : z_lkV RX0 259 M_X0_climbsTill 0 4 := ⟨cl_X0_climbsTill, q1101, _, rfl, Or.inl ⟨q1099, qs23, ⟨by decide +kernel, by decide +kernel⟩, by decide +kernel⟩⟩
theorem vl_X0_269_0 : z_lkV RX0 269 M_X0_minutesStraight 0 1 := ⟨cl_X0_minutesStraight, q1109, _, rfl, Or.inl ⟨q1107, qs24, ⟨by decide +kernel, by decide +kernel⟩, by decide +kernel⟩⟩
theorem vl_X0_278_0 : z_lkV RX0 278 M_X0_fewestBut 0 1 := ⟨cl_X0_fewestBut, q1117, _, rfl, Or.inl ⟨q1115, qs25, ⟨by decide +kernel, by decide +kernel⟩, by decide +kernel⟩⟩
theorem fl_X0_272_0 : z_Fl RX0 272 0 23 := ⟨_, _, rfl, by decide, Or.inl q293, Or.inl rfl⟩
theorem pl_X0_272_0 {y : MethodName} (hy : y.cls = RX0) : z_Pl y 272 0 23 := ⟨by rw [hy]; exact fl_X0_272_0, fun q hq => by cases hq; exact Or.inl rfl⟩
theorem fl_X0_275_0 : z_Fl RX0 275 0 24 := ⟨_, _, rfl, by decide, Or.inl q294, Or.inl rfl⟩
theorem pl_X0_275_0 {y : MethodName} (hy : y.cls = RX0) : z_Pl y 275 0 24 := ⟨by rw [hy]; exact fl_X0_275_0, fun q hq => by cases hq; exact Or.inl rfl⟩
theorem vl_X0_281_0 : z_lkV RX0 281 M_X0_minutesByTwo 0 3 := ⟨cl_X0_minutesByTwo, q1125, _, rfl, Or.inl ⟨q1123, qs26, ⟨by decide +kernel, by decide +kernel⟩, by decide +kernel⟩⟩
theorem sl_X0_284 : z_lkS RX0 284 M_X0_orNever 1 := ⟨cl_X0_orNever, q1132, ⟨by decide +kernel, by decide +kernel⟩, by decide +kernel, Or.inl q1131⟩
theorem fl_X0_287_0 : z_Fl RX0 287 0 18 := ⟨_, _, rfl, by decide, Or.inl q288, Or.inl rfl⟩
theorem pl_X0_287_0 {y : MethodName} (hy : y.cls = RX0) : z_Pl y 287 0 18 := ⟨by rw [hy]; exact fl_X0_287_0, fun q hq => by cases hq; exact Or.inl rfl⟩
theorem vl_X0_290_0 : z_lkV RX0 290 M_X0_flies 0 1 := ⟨cl_X0_flies, q1144, _, rfl, Or.inl ⟨q1142, qs27, ⟨by decide +kernel, by decide +kernel⟩, by decide +kernel⟩⟩
theorem fl_X0_293_0 : z_Fl RX0 293 0 19 := ⟨_, _, rfl, by decide, Or.inl q289, Or.inl rfl⟩
theorem pl_X0_293_0 {y : MethodName} (hy : y.cls = RX0) : z_Pl y 293 0 19 := ⟨by rw [hy]; exact fl_X0_293_0, fun q hq => by cases hq; exact Or.inl rfl⟩
theorem vl_X0_296_0 : z_lkV RX0 296 M_X0_isAsSeen 0 1 := ⟨cl_X0_isAsSeen, q1156, _, rfl, Or.inl ⟨q1154, qs28, ⟨by decide +kernel, by decide +kernel⟩, by decide +kernel⟩⟩
theorem vl_X0_305_0 : z_lkV RX0 305 M_X0_up 0 2 := ⟨cl_X0_up, q1061, _, rfl, Or.inl ⟨q1163, q1062, ⟨by decide +kernel, by decide +kernel⟩, by decide +kernel⟩⟩
theorem sl_X0_308 : z_lkS RX0 308 M_X0_lowestTerms 3 := ⟨cl_X0_lowestTerms, q1165, ⟨by decide +kernel, by decide +kernel⟩, by decide +kernel, Or.inl q1164⟩
theorem sl_X0_299 : z_lkS RX0 299 M_X0_divisor 2 := ⟨cl_X0_divisor, q1168, ⟨by decide +kernel, by decide +kernel⟩, by decide +kernel, Or.inl q1167⟩
theorem fl_X0_312_0 : z_Fl RX0 312 0 20 := ⟨_, _, rfl, by decide, Or.inl q290, Or.inl rfl⟩
theorem pl_X0_312_0 {y : MethodName} (hy : y.cls = RX0) : z_Pl y 312 0 20 := ⟨by rw [hy]; exact fl_X0_312_0, fun q hq => by cases hq; exact Or.inl rfl⟩
theorem sl_X0_320 : z_lkS RX0 320 M_X0_isTape 1 := ⟨cl_X0_isTape, q1214, ⟨by decide +kernel, by decide +kernel⟩, by decide +kernel, Or.inl q1213⟩
theorem fl_X0_323_5 : z_Fl RX0 323 5 0 := ⟨_, _, rfl, by decide, Or.inr ⟨_, q266⟩, Or.inl rfl⟩
theorem pl_X0_323_5 {y : MethodName} (hy : y.cls = RX0) : z_Pl y 323 5 0 := ⟨by rw [hy]; exact fl_X0_323_5, fun q hq => by cases hq; exact Or.inl rfl⟩
theorem vl_X0_328_0 : z_lkV RX0 328 M_X0_firstOther 0 2 := ⟨cl_X0_firstOther, q1219, _, rfl, Or.inl ⟨q1217, qs29, ⟨by decide +kernel, by decide +kernel⟩, by decide +kernel⟩⟩
theorem il_X0_315 : z_lkI RX0 315 M_X15_init 1 := ⟨cl_X15_init, q807, rfl, rfl, rfl, ⟨by decide +kernel, by decide +kernel⟩, by decide +kernel, Or.inl q1240⟩
theorem fl_X0_340_0 : z_Fl RX0 340 0 34 := ⟨_, _, rfl, by decide, Or.inl q304, Or.inl rfl⟩
theorem pl_X0_340_0 {y : MethodName} (hy : y.cls = RX0) : z_Pl y 340 0 34 := ⟨by rw [hy]; exact fl_X0_340_0, fun q hq => by cases hq; exact Or.inl rfl⟩
theorem fl_X0_343_0 : z_Fl RX0 343 0 35 := ⟨_, _, rfl, by decide, Or.inl q305, Or.inl rfl⟩
theorem pl_X0_343_0 {y : MethodName} (hy : y.cls = RX0) : z_Pl y 343 0 35 := ⟨by rw [hy]; exact fl_X0_343_0, fun q hq => by cases hq; exact Or.inl rfl⟩
theorem fl_X0_346_0 : z_Fl RX0 346 0 36 := ⟨_, _, rfl, by decide, Or.inl q306, Or.inl rfl⟩
theorem pl_X0_346_0 {y : MethodName} (hy : y.cls = RX0) : z_Pl y 346 0 36 := ⟨by rw [hy]; exact fl_X0_346_0, fun q hq => by cases hq; exact Or.inl rfl⟩
theorem fl_X0_349_0 : z_Fl RX0 349 0 37 := ⟨_, _, rfl, by decide, Or.inl q307, Or.inl rfl⟩
theorem pl_X0_349_0 {y : MethodName} (hy : y.cls = RX0) : z_Pl y 349 0 37 := ⟨by rw [hy]; exact fl_X0_349_0, fun q hq => by cases hq; exact Or.inl rfl⟩
theorem fl_X0_352_0 : z_Fl RX0 352 0 38 := ⟨_, _, rfl, by decide, Or.inl q308, Or.inl rfl⟩
theorem pl_X0_352_0 {y : MethodName} (hy : y.cls = RX0) : z_Pl y 352 0 38 := ⟨by rw [hy]; exact fl_X0_352_0, fun q hq => by cases hq; exact Or.inl rfl⟩
theorem fl_X0_355_0 : z_Fl RX0 355 0 39 := ⟨_, _, rfl, by decide, Or.inl q309, Or.inl rfl⟩
theorem pl_X0_355_0 {y : MethodName} (hy : y.cls = RX0) : z_Pl y 355 0 39 := ⟨by rw [hy]; exact fl_X0_355_0, fun q hq => by cases hq; exact Or.inl rfl⟩
theorem fl_X0_358_4 : z_Fl RX0 358 4 1 := ⟨_, _, rfl, by decide, Or.inr ⟨_, q252⟩, Or.inl rfl⟩
theorem pl_X0_358_4 {y : MethodName} (hy : y.cls = RX0) : z_Pl y 358 4 1 := ⟨by rw [hy]; exact fl_X0_358_4, fun q hq => by cases hq; exact Or.inl rfl⟩
theorem vl_X0_361_10 : z_lkV RX0 361 M_X7_turns 10 1 := ⟨cl_X7_turns, q1255, _, rfl, Or.inl ⟨q1254, q1268, ⟨by decide +kernel, by decide +kernel⟩, by decide +kernel⟩⟩
theorem vl_X0_361_11 : z_lkV RX0 361 M_X11_turns 11 1 := ⟨cl_X11_turns, q1259, _, rfl, Or.inr (Or.inr ⟨⟨"SomebodysLift$Lift", "turns", "(I)I"⟩, _, q1254, q1257, Or.inl q1267, ⟨by decide +kernel, by decide +kernel⟩, q1258, by decide +kernel⟩)⟩
theorem vl_X0_361_12 : z_lkV RX0 361 M_X9_turns 12 1 := ⟨cl_X9_turns, q1277, _, rfl, Or.inr (Or.inr ⟨⟨"SomebodysLift$Lift", "turns", "(I)I"⟩, _, q1254, q1257, Or.inl q1267, ⟨by decide +kernel, by decide +kernel⟩, q1276, by decide +kernel⟩)⟩
theorem vl_X0_361_13 : z_lkV RX0 361 M_X13_turns 13 1 := ⟨cl_X13_turns, q1271, _, rfl, Or.inr (Or.inr ⟨⟨"SomebodysLift$Lift", "turns", "(I)I"⟩, _, q1254, q1257, Or.inl q1267, ⟨by decide +kernel, by decide +kernel⟩, q1270, by decide +kernel⟩)⟩
theorem vl_X0_361_7 : z_lkV RX0 361 M_X7_turns 7 1 := ⟨cl_X7_turns, q1255, _, rfl, Or.inl ⟨q1254, q1256, ⟨by decide +kernel, by decide +kernel⟩, by decide +kernel⟩⟩
theorem vl_X0_361_8 : z_lkV RX0 361 M_X7_turns 8 1 := ⟨cl_X7_turns, q1255, _, rfl, Or.inl ⟨q1254, q1269, ⟨by decide +kernel, by decide +kernel⟩, by decide +kernel⟩⟩
theorem vl_X0_361_9 : z_lkV RX0 361 M_X9_turns 9 1 := ⟨cl_X9_turns, q1277, _, rfl, Or.inr (Or.inr ⟨⟨"SomebodysLift$Lift", "turns", "(I)I"⟩, _, q1254, q1257, Or.inl q1267, ⟨by decide +kernel, by decide +kernel⟩, q1281, by decide +kernel⟩)⟩
theorem vl_X0_363_10 : z_lkV RX0 363 M_X7_climbs 10 1 := ⟨cl_X7_climbs, q1285, _, rfl, Or.inl ⟨q1284, q1296, ⟨by decide +kernel, by decide +kernel⟩, by decide +kernel⟩⟩
theorem vl_X0_363_11 : z_lkV RX0 363 M_X11_climbs 11 1 := ⟨cl_X11_climbs, q1289, _, rfl, Or.inr (Or.inr ⟨⟨"SomebodysLift$Lift", "climbs", "(I)I"⟩, _, q1284, q1287, Or.inl q1303, ⟨by decide +kernel, by decide +kernel⟩, q1288, by decide +kernel⟩)⟩
theorem vl_X0_363_12 : z_lkV RX0 363 M_X7_climbs 12 1 := ⟨cl_X7_climbs, q1285, _, rfl, Or.inl ⟨q1284, q1304, ⟨by decide +kernel, by decide +kernel⟩, by decide +kernel⟩⟩
theorem vl_X0_363_13 : z_lkV RX0 363 M_X13_climbs 13 1 := ⟨cl_X13_climbs, q1299, _, rfl, Or.inr (Or.inr ⟨⟨"SomebodysLift$Lift", "climbs", "(I)I"⟩, _, q1284, q1287, Or.inl q1303, ⟨by decide +kernel, by decide +kernel⟩, q1298, by decide +kernel⟩)⟩
theorem vl_X0_363_7 : z_lkV RX0 363 M_X7_climbs 7 1 := ⟨cl_X7_climbs, q1285, _, rfl, Or.inl ⟨q1284, q1286, ⟨by decide +kernel, by decide +kernel⟩, by decide +kernel⟩⟩
theorem vl_X0_363_8 : z_lkV RX0 363 M_X8_climbs 8 1 := ⟨cl_X8_climbs, q1292, _, rfl, Or.inr (Or.inr ⟨⟨"SomebodysLift$Lift", "climbs", "(I)I"⟩, _, q1284, q1287, Or.inl q1303, ⟨by decide +kernel, by decide +kernel⟩, q1297, by decide +kernel⟩)⟩
theorem vl_X0_363_9 : z_lkV RX0 363 M_X7_climbs 9 1 := ⟨cl_X7_climbs, q1285, _, rfl, Or.inl ⟨q1284, q1305, ⟨by decide +kernel, by decide +kernel⟩, by decide +kernel⟩⟩
theorem vl_X0_365_10 : z_lkV RX0 365 M_X10_tells 10 1 := ⟨cl_X10_tells, q1314, _, rfl, Or.inr (Or.inr ⟨⟨"SomebodysLift$Lift", "tells", "(I)I"⟩, _, q1308, q1311, Or.inl q1329, ⟨by decide +kernel, by decide +kernel⟩, q1313, by decide +kernel⟩)⟩
theorem vl_X0_365_11 : z_lkV RX0 365 M_X7_tells 11 1 := ⟨cl_X7_tells, q1309, _, rfl, Or.inl ⟨q1308, q1312, ⟨by decide +kernel, by decide +kernel⟩, by decide +kernel⟩⟩
theorem vl_X0_365_12 : z_lkV RX0 365 M_X12_tells 12 1 := ⟨cl_X12_tells, q1324, _, rfl, Or.inr (Or.inr ⟨⟨"SomebodysLift$Lift", "tells", "(I)I"⟩, _, q1308, q1311, Or.inl q1329, ⟨by decide +kernel, by decide +kernel⟩, q1323, by decide +kernel⟩)⟩
theorem vl_X0_365_13 : z_lkV RX0 365 M_X10_tells 13 1 := ⟨cl_X10_tells, q1314, _, rfl, Or.inr (Or.inr ⟨⟨"SomebodysLift$Lift", "tells", "(I)I"⟩, _, q1308, q1311, Or.inl q1329, ⟨by decide +kernel, by decide +kernel⟩, q1322, by decide +kernel⟩)⟩
theorem vl_X0_365_7 : z_lkV RX0 365 M_X7_tells 7 1 := ⟨cl_X7_tells, q1309, _, rfl, Or.inl ⟨q1308, q1310, ⟨by decide +kernel, by decide +kernel⟩, by decide +kernel⟩⟩
theorem vl_X0_365_8 : z_lkV RX0 365 M_X7_tells 8 1 := ⟨cl_X7_tells, q1309, _, rfl, Or.inl ⟨q1308, q1321, ⟨by decide +kernel, by decide +kernel⟩, by decide +kernel⟩⟩
theorem vl_X0_365_9 : z_lkV RX0 365 M_X7_tells 9 1 := ⟨cl_X7_tells, q1309, _, rfl, Or.inl ⟨q1308, q1330, ⟨by decide +kernel, by decide +kernel⟩, by decide +kernel⟩⟩
theorem fl_X0_368_4 : z_Fl RX0 368 4 0 := ⟨_, _, rfl, by decide, Or.inr ⟨_, q250⟩, Or.inl rfl⟩
theorem sl_X0_371 : z_lkS RX0 371 M_X0_takenFor 2 := ⟨cl_X0_takenFor, q1342, ⟨by decide +kernel, by decide +kernel⟩, by decide +kernel, Or.inl q1341⟩
theorem sl_X0_375 : z_lkS RX0 375 M_X0_rowOf 2 := ⟨cl_X0_rowOf, q1367, ⟨by decide +kernel, by decide +kernel⟩, by decide +kernel, Or.inl q1366⟩
theorem vl_X0_381_5 : z_lkV RX0 381 M_X5_has 5 1 := ⟨cl_X5_has, q1378, _, rfl, Or.inr (Or.inl ⟨_, q1376, qs30, ⟨by decide +kernel, by decide +kernel⟩, by decide +kernel⟩)⟩
theorem vl_X0_391_5 : z_lkV RX0 391 M_X5_size 5 0 := ⟨cl_X5_size, q1384, _, rfl, Or.inr (Or.inl ⟨_, q1400, qs31, ⟨by decide +kernel, by decide +kernel⟩, by decide +kernel⟩)⟩
theorem fl_X1_9_1 : z_Fl RX1 9 1 1 := ⟨_, _, rfl, by decide, Or.inl q147, Or.inl rfl⟩
theorem pl_X1_9_1 {y : MethodName} (hy : y.cls = RX1) : z_Pl y 9 1 1 := ⟨by rw [hy]; exact fl_X1_9_1, fun q hq => by cases hq; exact Or.inl rfl⟩
theorem fl_X1_15_1 : z_Fl RX1 15 1 3 := ⟨_, _, rfl, by decide, Or.inl q151, Or.inl rfl⟩
theorem pl_X1_15_1 {y : MethodName} (hy : y.cls = RX1) : z_Pl y 15 1 3 := ⟨by rw [hy]; exact fl_X1_15_1, fun q hq => by cases hq; exact Or.inl rfl⟩
theorem sl_X1_38 : z_lkS RX1 38 M_J3_max 2 := ⟨cl_J3_max, q921, ⟨by decide +kernel, by decide +kernel⟩, by decide +kernel, Or.inl q1029⟩
theorem sl_X1_41 : z_lkS RX1 41 M_J3_min 2 := ⟨cl_J3_min, q554, ⟨by decide +kernel, by decide +kernel⟩, by decide +kernel, Or.inl q1030⟩
theorem fl_X1_21_1 : z_Fl RX1 21 1 2 := ⟨_, _, rfl, by decide, Or.inl q149, Or.inl rfl⟩
theorem pl_X1_21_1 {y : MethodName} (hy : y.cls = RX1) : z_Pl y 21 1 2 := ⟨by rw [hy]; exact fl_X1_21_1, fun q hq => by cases hq; exact Or.inl rfl⟩
theorem fl_X1_18_1 : z_Fl RX1 18 1 0 := ⟨_, _, rfl, by decide, Or.inl q145, Or.inl rfl⟩
theorem pl_X1_18_1 {y : MethodName} (hy : y.cls = RX1) : z_Pl y 18 1 0 := ⟨by rw [hy]; exact fl_X1_18_1, fun q hq => by cases hq; exact Or.inl rfl⟩
theorem vl_X1_34_1 : z_lkV RX1 34 M_X1_reaches 1 3 := ⟨cl_X1_reaches, q1050, _, rfl, Or.inl ⟨q1049, q1051, ⟨by decide +kernel, by decide +kernel⟩, by decide +kernel⟩⟩
theorem vl_X1_30_1 : z_lkV RX1 30 M_X1_needs 1 2 := ⟨cl_X1_needs, q1054, _, rfl, Or.inl ⟨q1053, q1055, ⟨by decide +kernel, by decide +kernel⟩, by decide +kernel⟩⟩
theorem sl_X1_24 : z_lkS RX1 24 M_J3_abs 1 := ⟨cl_J3_abs, q1058, ⟨by decide +kernel, by decide +kernel⟩, by decide +kernel, Or.inl q1057⟩
theorem il_X10_3 : z_lkI RX10 3 M_X7_init 4 := ⟨cl_X7_init, q411, rfl, rfl, rfl, ⟨by decide +kernel, by decide +kernel⟩, by decide +kernel, Or.inl q469⟩
theorem ul_X10_9 : z_lkU RX10 9 M_X7_climb 3 := ⟨cl_X7_climb, q605, by decide +kernel, by decide +kernel, q618, q607, q474⟩
theorem fl_X10_13_10 : z_Fl RX10 13 10 0 := ⟨_, _, rfl, by decide, Or.inl q423, Or.inr q424⟩
theorem fl_X10_13_11 : z_Fl RX10 13 11 0 := ⟨_, _, rfl, by decide, Or.inl q423, Or.inr q424⟩
theorem fl_X10_13_12 : z_Fl RX10 13 12 0 := ⟨_, _, rfl, by decide, Or.inl q423, Or.inr q424⟩
theorem fl_X10_13_13 : z_Fl RX10 13 13 0 := ⟨_, _, rfl, by decide, Or.inl q423, Or.inr q424⟩
theorem fl_X10_13_7 : z_Fl RX10 13 7 0 := ⟨_, _, rfl, by decide, Or.inl q423, Or.inr q424⟩
theorem fl_X10_13_8 : z_Fl RX10 13 8 0 := ⟨_, _, rfl, by decide, Or.inl q423, Or.inr q424⟩
theorem fl_X10_13_9 : z_Fl RX10 13 9 0 := ⟨_, _, rfl, by decide, Or.inl q423, Or.inr q424⟩
theorem vl_X10_19_4 : z_lkV RX10 19 M_X4_ran 4 1 := ⟨cl_X4_ran, q1262, _, rfl, Or.inl ⟨q1316, q1263, ⟨by decide +kernel, by decide +kernel⟩, by decide +kernel⟩⟩
theorem ul_X10_25 : z_lkU RX10 25 M_X7_tells 1 := ⟨cl_X7_tells, q1309, by decide +kernel, by decide +kernel, q1317, q1311, q474⟩
theorem vl_X10_29_10 : z_lkV RX10 29 M_X7_climbs 10 1 := ⟨cl_X7_climbs, q1285, _, rfl, Or.inr (Or.inr ⟨⟨"SomebodysLift$Late", "climbs", "(I)I"⟩, _, q1318, q1302, Or.inl q1303, ⟨by decide +kernel, by decide +kernel⟩, q1319, by decide +kernel⟩)⟩
theorem vl_X10_29_13 : z_lkV RX10 29 M_X13_climbs 13 1 := ⟨cl_X13_climbs, q1299, _, rfl, Or.inr (Or.inr ⟨⟨"SomebodysLift$Late", "climbs", "(I)I"⟩, _, q1318, q1302, Or.inl q1303, ⟨by decide +kernel, by decide +kernel⟩, q1320, by decide +kernel⟩)⟩
theorem il_X11_3 : z_lkI RX11 3 M_X8_init 4 := ⟨cl_X8_init, q408, rfl, rfl, rfl, ⟨by decide +kernel, by decide +kernel⟩, by decide +kernel, Or.inl q480⟩
theorem fl_X11_9_10 : z_Fl RX11 9 10 2 := ⟨_, _, rfl, by decide, Or.inl q435, Or.inr q436⟩
theorem fl_X11_9_11 : z_Fl RX11 9 11 2 := ⟨_, _, rfl, by decide, Or.inl q435, Or.inr q436⟩
theorem fl_X11_9_12 : z_Fl RX11 9 12 2 := ⟨_, _, rfl, by decide, Or.inl q435, Or.inr q436⟩
theorem fl_X11_9_13 : z_Fl RX11 9 13 2 := ⟨_, _, rfl, by decide, Or.inl q435, Or.inr q436⟩
theorem fl_X11_9_7 : z_Fl RX11 9 7 2 := ⟨_, _, rfl, by decide, Or.inl q435, Or.inr q436⟩
theorem fl_X11_9_8 : z_Fl RX11 9 8 2 := ⟨_, _, rfl, by decide, Or.inl q435, Or.inr q436⟩
theorem fl_X11_9_9 : z_Fl RX11 9 9 2 := ⟨_, _, rfl, by decide, Or.inl q435, Or.inr q436⟩
theorem ul_X11_15 : z_lkU RX11 15 M_X8_climb 3 := ⟨cl_X8_climb, q612, by decide +kernel, by decide +kernel, q611, q2048, q485⟩
theorem fl_X11_19_10 : z_Fl RX11 19 10 0 := ⟨_, _, rfl, by decide, Or.inl q415, Or.inr q416⟩
theorem fl_X11_19_11 : z_Fl RX11 19 11 0 := ⟨_, _, rfl, by decide, Or.inl q415, Or.inr q416⟩
theorem fl_X11_19_12 : z_Fl RX11 19 12 0 := ⟨_, _, rfl, by decide, Or.inl q415, Or.inr q416⟩
theorem fl_X11_19_13 : z_Fl RX11 19 13 0 := ⟨_, _, rfl, by decide, Or.inl q415, Or.inr q416⟩
theorem fl_X11_19_7 : z_Fl RX11 19 7 0 := ⟨_, _, rfl, by decide, Or.inl q415, Or.inr q416⟩
theorem fl_X11_19_8 : z_Fl RX11 19 8 0 := ⟨_, _, rfl, by decide, Or.inl q415, Or.inr q416⟩
theorem fl_X11_19_9 : z_Fl RX11 19 9 0 := ⟨_, _, rfl, by decide, Or.inl q415, Or.inr q416⟩
theorem vl_X11_23_4 : z_lkV RX11 23 M_X4_ran 4 1 := ⟨cl_X4_ran, q1262, _, rfl, Or.inl ⟨q1261, q1263, ⟨by decide +kernel, by decide +kernel⟩, by decide +kernel⟩⟩
theorem ul_X11_33 : z_lkU RX11 33 M_X8_climbs 1 := ⟨cl_X8_climbs, q1292, by decide +kernel, by decide +kernel, q1291, q2052, q485⟩
theorem il_X12_3 : z_lkI RX12 3 M_X9_init 4 := ⟨cl_X9_init, q456, rfl, rfl, rfl, ⟨by decide +kernel, by decide +kernel⟩, by decide +kernel, Or.inl q491⟩
theorem fl_X12_9_10 : z_Fl RX12 9 10 2 := ⟨_, _, rfl, by decide, Or.inl q433, Or.inr q434⟩
theorem fl_X12_9_11 : z_Fl RX12 9 11 2 := ⟨_, _, rfl, by decide, Or.inl q433, Or.inr q434⟩
theorem fl_X12_9_12 : z_Fl RX12 9 12 2 := ⟨_, _, rfl, by decide, Or.inl q433, Or.inr q434⟩
theorem fl_X12_9_13 : z_Fl RX12 9 13 2 := ⟨_, _, rfl, by decide, Or.inl q433, Or.inr q434⟩
theorem fl_X12_9_7 : z_Fl RX12 9 7 2 := ⟨_, _, rfl, by decide, Or.inl q433, Or.inr q434⟩
theorem fl_X12_9_8 : z_Fl RX12 9 8 2 := ⟨_, _, rfl, by decide, Or.inl q433, Or.inr q434⟩
theorem fl_X12_9_9 : z_Fl RX12 9 9 2 := ⟨_, _, rfl, by decide, Or.inl q433, Or.inr q434⟩
theorem ul_X12_15 : z_lkU RX12 15 M_X9_climb 3 := ⟨cl_X9_climb, q628, by decide +kernel, by decide +kernel, q627, q2050, q496⟩
theorem fl_X12_19_10 : z_Fl RX12 19 10 0 := ⟨_, _, rfl, by decide, Or.inl q425, Or.inr q426⟩
theorem fl_X12_19_11 : z_Fl RX12 19 11 0 := ⟨_, _, rfl, by decide, Or.inl q425, Or.inr q426⟩
theorem fl_X12_19_12 : z_Fl RX12 19 12 0 := ⟨_, _, rfl, by decide, Or.inl q425, Or.inr q426⟩
theorem fl_X12_19_13 : z_Fl RX12 19 13 0 := ⟨_, _, rfl, by decide, Or.inl q425, Or.inr q426⟩
theorem fl_X12_19_7 : z_Fl RX12 19 7 0 := ⟨_, _, rfl, by decide, Or.inl q425, Or.inr q426⟩
theorem fl_X12_19_8 : z_Fl RX12 19 8 0 := ⟨_, _, rfl, by decide, Or.inl q425, Or.inr q426⟩
theorem fl_X12_19_9 : z_Fl RX12 19 9 0 := ⟨_, _, rfl, by decide, Or.inl q425, Or.inr q426⟩
theorem vl_X12_23_4 : z_lkV RX12 23 M_X4_ran 4 1 := ⟨cl_X4_ran, q1262, _, rfl, Or.inl ⟨q1326, q1263, ⟨by decide +kernel, by decide +kernel⟩, by decide +kernel⟩⟩
theorem fl_X12_29_10 : z_Fl RX12 29 10 1 := ⟨_, _, rfl, by decide, Or.inl q430, Or.inr q431⟩
theorem fl_X12_29_11 : z_Fl RX12 29 11 1 := ⟨_, _, rfl, by decide, Or.inl q430, Or.inr q431⟩
theorem fl_X12_29_12 : z_Fl RX12 29 12 1 := ⟨_, _, rfl, by decide, Or.inl q430, Or.inr q431⟩
theorem fl_X12_29_13 : z_Fl RX12 29 13 1 := ⟨_, _, rfl, by decide, Or.inl q430, Or.inr q431⟩
theorem fl_X12_29_7 : z_Fl RX12 29 7 1 := ⟨_, _, rfl, by decide, Or.inl q430, Or.inr q431⟩
theorem fl_X12_29_8 : z_Fl RX12 29 8 1 := ⟨_, _, rfl, by decide, Or.inl q430, Or.inr q431⟩
theorem fl_X12_29_9 : z_Fl RX12 29 9 1 := ⟨_, _, rfl, by decide, Or.inl q430, Or.inr q431⟩
theorem il_X13_3 : z_lkI RX13 3 M_X10_init 4 := ⟨cl_X10_init, q467, rfl, rfl, rfl, ⟨by decide +kernel, by decide +kernel⟩, by decide +kernel, Or.inl q502⟩
theorem fl_X13_9_13 : z_Fl RX13 9 13 4 := ⟨_, _, rfl, by decide, Or.inl q503, Or.inl rfl⟩
theorem pf_X13_init_9_13 : z_Pl yX13_init 9 13 4 := ⟨fl_X13_9_13, fun q hq => by cases hq; exact Or.inr ⟨⟨rfl, rfl, rfl⟩, _, q503, rfl⟩⟩
theorem ul_X13_15 : z_lkU RX13 15 M_X10_climb 3 := ⟨cl_X10_climb, q616, by decide +kernel, by decide +kernel, q623, q2049, q510⟩
theorem fl_X13_19_10 : z_Fl RX13 19 10 1 := ⟨_, _, rfl, by decide, Or.inl q428, Or.inr q429⟩
theorem fl_X13_19_11 : z_Fl RX13 19 11 1 := ⟨_, _, rfl, by decide, Or.inl q428, Or.inr q429⟩
theorem fl_X13_19_12 : z_Fl RX13 19 12 1 := ⟨_, _, rfl, by decide, Or.inl q428, Or.inr q429⟩
theorem fl_X13_19_13 : z_Fl RX13 19 13 1 := ⟨_, _, rfl, by decide, Or.inl q428, Or.inr q429⟩
theorem fl_X13_19_7 : z_Fl RX13 19 7 1 := ⟨_, _, rfl, by decide, Or.inl q428, Or.inr q429⟩
theorem fl_X13_19_8 : z_Fl RX13 19 8 1 := ⟨_, _, rfl, by decide, Or.inl q428, Or.inr q429⟩
theorem fl_X13_19_9 : z_Fl RX13 19 9 1 := ⟨_, _, rfl, by decide, Or.inl q428, Or.inr q429⟩
theorem fl_X13_23_10 : z_Fl RX13 23 10 0 := ⟨_, _, rfl, by decide, Or.inl q421, Or.inr q422⟩
theorem fl_X13_23_11 : z_Fl RX13 23 11 0 := ⟨_, _, rfl, by decide, Or.inl q421, Or.inr q422⟩
theorem fl_X13_23_12 : z_Fl RX13 23 12 0 := ⟨_, _, rfl, by decide, Or.inl q421, Or.inr q422⟩
theorem fl_X13_23_13 : z_Fl RX13 23 13 0 := ⟨_, _, rfl, by decide, Or.inl q421, Or.inr q422⟩
theorem fl_X13_23_7 : z_Fl RX13 23 7 0 := ⟨_, _, rfl, by decide, Or.inl q421, Or.inr q422⟩
theorem fl_X13_23_8 : z_Fl RX13 23 8 0 := ⟨_, _, rfl, by decide, Or.inl q421, Or.inr q422⟩
theorem fl_X13_23_9 : z_Fl RX13 23 9 0 := ⟨_, _, rfl, by decide, Or.inl q421, Or.inr q422⟩
theorem vl_X13_27_4 : z_lkV RX13 27 M_X4_ran 4 1 := ⟨cl_X4_ran, q1262, _, rfl, Or.inl ⟨q1273, q1263, ⟨by decide +kernel, by decide +kernel⟩, by decide +kernel⟩⟩
theorem fl_X13_40_10 : z_Fl RX13 40 10 2 := ⟨_, _, rfl, by decide, Or.inl q439, Or.inr q440⟩
theorem fl_X13_40_11 : z_Fl RX13 40 11 2 := ⟨_, _, rfl, by decide, Or.inl q439, Or.inr q440⟩
theorem fl_X13_40_12 : z_Fl RX13 40 12 2 := ⟨_, _, rfl, by decide, Or.inl q439, Or.inr q440⟩
theorem fl_X13_40_13 : z_Fl RX13 40 13 2 := ⟨_, _, rfl, by decide, Or.inl q439, Or.inr q440⟩
theorem fl_X13_40_7 : z_Fl RX13 40 7 2 := ⟨_, _, rfl, by decide, Or.inl q439, Or.inr q440⟩
theorem fl_X13_40_8 : z_Fl RX13 40 8 2 := ⟨_, _, rfl, by decide, Or.inl q439, Or.inr q440⟩
theorem fl_X13_40_9 : z_Fl RX13 40 9 2 := ⟨_, _, rfl, by decide, Or.inl q439, Or.inr q440⟩
theorem il_X14_11 : z_lkI RX14 11 M_X2_init 0 := ⟨cl_X2_init, q166, rfl, rfl, rfl, ⟨by decide +kernel, by decide +kernel⟩, by decide +kernel, Or.inr ⟨_, q657⟩⟩
theorem fl_X14_12_14 : z_Fl RX14 12 14 4 := ⟨_, _, rfl, by decide, Or.inl q662, Or.inl rfl⟩
theorem pf_X14_init_12_14 : z_Pl yX14_init 12 14 4 := ⟨fl_X14_12_14, fun q hq => by cases hq; exact Or.inr ⟨⟨rfl, rfl, rfl⟩, _, q662, rfl⟩⟩
theorem fl_X14_18_14 : z_Fl RX14 18 14 0 := ⟨_, _, rfl, by decide, Or.inl q658, Or.inl rfl⟩
theorem pf_X14_init_18_14 : z_Pl yX14_init 18 14 0 := ⟨fl_X14_18_14, fun q hq => by cases hq; exact Or.inr ⟨⟨rfl, rfl, rfl⟩, _, q658, rfl⟩⟩
theorem fl_X14_22_14 : z_Fl RX14 22 14 1 := ⟨_, _, rfl, by decide, Or.inl q659, Or.inl rfl⟩
theorem pf_X14_init_22_14 : z_Pl yX14_init 22 14 1 := ⟨fl_X14_22_14, fun q hq => by cases hq; exact Or.inr ⟨⟨rfl, rfl, rfl⟩, _, q659, rfl⟩⟩
theorem vl_X14_139_14 : z_lkV RX14 139 M_X14_clause 14 0 := ⟨cl_X14_clause, q680, _, rfl, Or.inl ⟨q678, qs4, ⟨by decide +kernel, by decide +kernel⟩, by decide +kernel⟩⟩
theorem fl_X14_136_2 : z_Fl RX14 136 2 1 := ⟨_, _, rfl, by decide, Or.inr ⟨_, q198⟩, Or.inl rfl⟩
theorem pl_X14_136_2 {y : MethodName} (hy : y.cls = RX14) : z_Pl y 136 2 1 := ⟨by rw [hy]; exact fl_X14_136_2, fun q hq => by cases hq; exact Or.inl rfl⟩
theorem vl_X14_34_14 : z_lkV RX14 34 M_X14_here 14 0 := ⟨cl_X14_here, q684, _, rfl, Or.inl ⟨q682, qs5, ⟨by decide +kernel, by decide +kernel⟩, by decide +kernel⟩⟩
theorem fl_X14_26_14 : z_Fl RX14 26 14 2 := ⟨_, _, rfl, by decide, Or.inl q660, Or.inl rfl⟩
theorem pl_X14_26_14 {y : MethodName} (hy : y.cls = RX14) : z_Pl y 26 14 2 := ⟨by rw [hy]; exact fl_X14_26_14, fun q hq => by cases hq; exact Or.inl rfl⟩
theorem vl_X14_38_14 : z_lkV RX14 38 M_X14_off 14 0 := ⟨cl_X14_off, q747, _, rfl, Or.inl ⟨q745, qs9, ⟨by decide +kernel, by decide +kernel⟩, by decide +kernel⟩⟩
theorem vl_X14_116_14 : z_lkV RX14 116 M_X14_tested 14 2 := ⟨cl_X14_tested, q689, _, rfl, Or.inl ⟨q687, qs6, ⟨by decide +kernel, by decide +kernel⟩, by decide +kernel⟩⟩
theorem vl_X14_124_14 : z_lkV RX14 124 M_X14_told 14 1 := ⟨cl_X14_told, q989, _, rfl, Or.inl ⟨q987, qs20, ⟨by decide +kernel, by decide +kernel⟩, by decide +kernel⟩⟩
theorem fl_X14_128_2 : z_Fl RX14 128 2 2 := ⟨_, _, rfl, by decide, Or.inr ⟨_, q200⟩, Or.inl rfl⟩
theorem pl_X14_128_2 {y : MethodName} (hy : y.cls = RX14) : z_Pl y 128 2 2 := ⟨by rw [hy]; exact fl_X14_128_2, fun q hq => by cases hq; exact Or.inl rfl⟩
theorem fl_X14_133_2 : z_Fl RX14 133 2 3 := ⟨_, _, rfl, by decide, Or.inr ⟨_, q202⟩, Or.inl rfl⟩
theorem pl_X14_133_2 {y : MethodName} (hy : y.cls = RX14) : z_Pl y 133 2 3 := ⟨by rw [hy]; exact fl_X14_133_2, fun q hq => by cases hq; exact Or.inl rfl⟩
theorem vl_X14_102_14 : z_lkV RX14 102 M_X14_word 14 1 := ⟨cl_X14_word, q693, _, rfl, Or.inl ⟨q691, qs7, ⟨by decide +kernel, by decide +kernel⟩, by decide +kernel⟩⟩
theorem vl_X14_78_14 : z_lkV RX14 78 M_X14_number 14 0 := ⟨cl_X14_number, q835, _, rfl, Or.inl ⟨q833, qs12, ⟨by decide +kernel, by decide +kernel⟩, by decide +kernel⟩⟩
theorem vl_X14_51_14 : z_lkV RX14 51 M_X14_must 14 1 := ⟨cl_X14_must, q743, _, rfl, Or.inl ⟨q741, qs8, ⟨by decide +kernel, by decide +kernel⟩, by decide +kernel⟩⟩
theorem fl_X14_106_2 : z_Fl RX14 106 2 0 := ⟨_, _, rfl, by decide, Or.inr ⟨_, q197⟩, Or.inl rfl⟩
theorem vl_X14_73_14 : z_lkV RX14 73 M_X14_some 14 0 := ⟨cl_X14_some, q842, _, rfl, Or.inl ⟨q840, qs13, ⟨by decide +kernel, by decide +kernel⟩, by decide +kernel⟩⟩
theorem il_X14_111 : z_lkI RX14 111 M_X16_init 2 := ⟨cl_X16_init, q973, rfl, rfl, rfl, ⟨by decide +kernel, by decide +kernel⟩, by decide +kernel, Or.inl q972⟩
theorem vl_X14_93_21 : z_lkV RX14 93 M_J2_add 21 1 := ⟨cl_J2_add, q902, _, rfl, Or.inl ⟨q901, q903, ⟨by decide +kernel, by decide +kernel⟩, by decide +kernel⟩⟩
theorem vl_X14_42_22 : z_lkV RX14 42 M_J6_length 22 0 := ⟨cl_J6_length, q696, _, rfl, Or.inl ⟨q695, q697, ⟨by decide +kernel, by decide +kernel⟩, by decide +kernel⟩⟩
theorem vl_X14_47_22 : z_lkV RX14 47 M_J6_charAt 22 1 := ⟨cl_J6_charAt, q706, _, rfl, Or.inl ⟨q705, q707, ⟨by decide +kernel, by decide +kernel⟩, by decide +kernel⟩⟩
theorem il_X14_31 : z_lkI RX14 31 M_X15_init 1 := ⟨cl_X15_init, q807, rfl, rfl, rfl, ⟨by decide +kernel, by decide +kernel⟩, by decide +kernel, Or.inl q806⟩
theorem sl_X14_54 : z_lkS RX14 54 M_X0_in 3 := ⟨cl_X0_in, q396, ⟨by decide +kernel, by decide +kernel⟩, by decide +kernel, Or.inr ⟨_, q837⟩⟩
theorem il_X14_86 : z_lkI RX14 86 M_X18_init 1 := ⟨cl_X18_init, q847, rfl, rfl, rfl, ⟨by decide +kernel, by decide +kernel⟩, by decide +kernel, Or.inl q846⟩
theorem fl_X14_89_18 : z_Fl RX14 89 18 1 := ⟨_, _, rfl, by decide, Or.inr ⟨_, q857⟩, Or.inl rfl⟩
theorem vl_X14_99_14 : z_lkV RX14 99 M_X14_all 14 0 := ⟨cl_X14_all, q865, _, rfl, Or.inl ⟨q863, qs14, ⟨by decide +kernel, by decide +kernel⟩, by decide +kernel⟩⟩
theorem vl_X14_66_14 : z_lkV RX14 66 M_X14_factor 14 0 := ⟨cl_X14_factor, q869, _, rfl, Or.inl ⟨q867, qs15, ⟨by decide +kernel, by decide +kernel⟩, by decide +kernel⟩⟩
theorem vl_X14_61_14 : z_lkV RX14 61 M_X14_deeper 14 0 := ⟨cl_X14_deeper, q873, _, rfl, Or.inl ⟨q871, qs16, ⟨by decide +kernel, by decide +kernel⟩, by decide +kernel⟩⟩
theorem il_X14_70 : z_lkI RX14 70 M_X19_init 1 := ⟨cl_X19_init, q878, rfl, rfl, rfl, ⟨by decide +kernel, by decide +kernel⟩, by decide +kernel, Or.inl q877⟩
theorem fl_X14_58_14 : z_Fl RX14 58 14 3 := ⟨_, _, rfl, by decide, Or.inl q661, Or.inl rfl⟩
theorem pl_X14_58_14 {y : MethodName} (hy : y.cls = RX14) : z_Pl y 58 14 3 := ⟨by rw [hy]; exact fl_X14_58_14, fun q hq => by cases hq; exact Or.inl rfl⟩
theorem il_X14_81 : z_lkI RX14 81 M_X20_init 3 := ⟨cl_X20_init, q888, rfl, rfl, rfl, ⟨by decide +kernel, by decide +kernel⟩, by decide +kernel, Or.inl q887⟩
theorem il_X15_1 : z_lkI RX15 1 M_J11_init 0 := ⟨cl_J11_init, q810, rfl, rfl, rfl, ⟨by decide +kernel, by decide +kernel⟩, by decide +kernel, Or.inl q809⟩
theorem fl_X15_7_15 : z_Fl RX15 7 15 6 := ⟨_, _, rfl, by decide, Or.inl q816, Or.inl rfl⟩
theorem pf_X15_init_7_15 : z_Pl yX15_init 7 15 6 := ⟨fl_X15_7_15, fun q hq => by cases hq; exact Or.inr ⟨⟨rfl, rfl, rfl⟩, _, q816, rfl⟩⟩
theorem fl_X16_7_16 : z_Fl RX16 7 16 0 := ⟨_, _, rfl, by decide, Or.inl q976, Or.inl rfl⟩
theorem pf_X16_init_7_16 : z_Pl yX16_init 7 16 0 := ⟨fl_X16_7_16, fun q hq => by cases hq; exact Or.inr ⟨⟨rfl, rfl, rfl⟩, _, q976, rfl⟩⟩
theorem fl_X16_13_16 : z_Fl RX16 13 16 1 := ⟨_, _, rfl, by decide, Or.inl q978, Or.inl rfl⟩
theorem pf_X16_init_13_16 : z_Pl yX16_init 13 16 1 := ⟨fl_X16_13_16, fun q hq => by cases hq; exact Or.inr ⟨⟨rfl, rfl, rfl⟩, _, q978, rfl⟩⟩
theorem fl_X18_10_18 : z_Fl RX18 10 18 1 := ⟨_, _, rfl, by decide, Or.inl q856, Or.inl rfl⟩
theorem pf_X18_init_10_18 : z_Pl yX18_init 10 18 1 := ⟨fl_X18_10_18, fun q hq => by cases hq; exact Or.inr ⟨⟨rfl, rfl, rfl⟩, _, q856, rfl⟩⟩
theorem vl_X18_20_21 : z_lkV RX18 20 M_J2_size 21 0 := ⟨cl_J2_size, q561, _, rfl, Or.inl ⟨q595, q562, ⟨by decide +kernel, by decide +kernel⟩, by decide +kernel⟩⟩
theorem vl_X18_24_21 : z_lkV RX18 24 M_J2_get 21 1 := ⟨cl_J2_get, q565, _, rfl, Or.inl ⟨q596, q566, ⟨by decide +kernel, by decide +kernel⟩, by decide +kernel⟩⟩
theorem vl_X18_28_18 : z_lkV RX18 28 M_X18_holds 18 1 := ⟨cl_X18_holds, q593, _, rfl, Or.inr (Or.inr ⟨⟨"SomebodysLift$Test", "holds", "(LSomebodysLift$Look;)Z"⟩, _, q598, q581, Or.inl q580, ⟨by decide +kernel, by decide +kernel⟩, q599, by decide +kernel⟩)⟩
theorem vl_X18_28_19 : z_lkV RX18 28 M_X19_holds 19 1 := ⟨cl_X19_holds, q590, _, rfl, Or.inr (Or.inr ⟨⟨"SomebodysLift$Test", "holds", "(LSomebodysLift$Look;)Z"⟩, _, q598, q581, Or.inl q580, ⟨by decide +kernel, by decide +kernel⟩, q589, by decide +kernel⟩)⟩
theorem vl_X18_28_20 : z_lkV RX18 28 M_X20_holds 20 1 := ⟨cl_X20_holds, q583, _, rfl, Or.inr (Or.inr ⟨⟨"SomebodysLift$Test", "holds", "(LSomebodysLift$Look;)Z"⟩, _, q598, q581, Or.inl q580, ⟨by decide +kernel, by decide +kernel⟩, q582, by decide +kernel⟩)⟩
theorem fl_X18_16_18 : z_Fl RX18 16 18 0 := ⟨_, _, rfl, by decide, Or.inl q855, Or.inl rfl⟩
theorem pf_X18_init_16_18 : z_Pl yX18_init 16 18 0 := ⟨fl_X18_16_18, fun q hq => by cases hq; exact Or.inr ⟨⟨rfl, rfl, rfl⟩, _, q855, rfl⟩⟩
theorem il_X18_1 : z_lkI RX18 1 M_X17_init 0 := ⟨cl_X17_init, q850, rfl, rfl, rfl, ⟨by decide +kernel, by decide +kernel⟩, by decide +kernel, Or.inr ⟨_, q849⟩⟩
theorem il_X18_9 : z_lkI RX18 9 M_J2_init 0 := ⟨cl_J2_init, q172, rfl, rfl, rfl, ⟨by decide +kernel, by decide +kernel⟩, by decide +kernel, Or.inl q854⟩
theorem fl_X19_7_19 : z_Fl RX19 7 19 0 := ⟨_, _, rfl, by decide, Or.inl q881, Or.inl rfl⟩
theorem pf_X19_init_7_19 : z_Pl yX19_init 7 19 0 := ⟨fl_X19_7_19, fun q hq => by cases hq; exact Or.inr ⟨⟨rfl, rfl, rfl⟩, _, q881, rfl⟩⟩
theorem vl_X19_13_18 : z_lkV RX19 13 M_X18_holds 18 1 := ⟨cl_X18_holds, q593, _, rfl, Or.inr (Or.inr ⟨⟨"SomebodysLift$Test", "holds", "(LSomebodysLift$Look;)Z"⟩, _, q592, q581, Or.inl q580, ⟨by decide +kernel, by decide +kernel⟩, q599, by decide +kernel⟩)⟩
theorem vl_X19_13_19 : z_lkV RX19 13 M_X19_holds 19 1 := ⟨cl_X19_holds, q590, _, rfl, Or.inr (Or.inr ⟨⟨"SomebodysLift$Test", "holds", "(LSomebodysLift$Look;)Z"⟩, _, q592, q581, Or.inl q580, ⟨by decide +kernel, by decide +kernel⟩, q589, by decide +kernel⟩)⟩
theorem vl_X19_13_20 : z_lkV RX19 13 M_X20_holds 20 1 := ⟨cl_X20_holds, q583, _, rfl, Or.inr (Or.inr ⟨⟨"SomebodysLift$Test", "holds", "(LSomebodysLift$Look;)Z"⟩, _, q592, q581, Or.inl q580, ⟨by decide +kernel, by decide +kernel⟩, q582, by decide +kernel⟩)⟩
theorem il_X19_1 : z_lkI RX19 1 M_X17_init 0 := ⟨cl_X17_init, q850, rfl, rfl, rfl, ⟨by decide +kernel, by decide +kernel⟩, by decide +kernel, Or.inr ⟨_, q880⟩⟩
theorem il_X2_11 : z_lkI RX2 11 M_J2_init 0 := ⟨cl_J2_init, q172, rfl, rfl, rfl, ⟨by decide +kernel, by decide +kernel⟩, by decide +kernel, Or.inl q171⟩
theorem fl_X2_12_2 : z_Fl RX2 12 2 0 := ⟨_, _, rfl, by decide, Or.inl q196, Or.inl rfl⟩
theorem pf_X2_init_12_2 : z_Pl yX2_init 12 2 0 := ⟨fl_X2_12_2, fun q hq => by cases hq; exact Or.inr ⟨⟨rfl, rfl, rfl⟩, _, q196, rfl⟩⟩
theorem fl_X2_18_2 : z_Fl RX2 18 2 2 := ⟨_, _, rfl, by decide, Or.inl q199, Or.inl rfl⟩
theorem pl_X2_18_2 {y : MethodName} (hy : y.cls = RX2) : z_Pl y 18 2 2 := ⟨by rw [hy]; exact fl_X2_18_2, fun q hq => by cases hq; exact Or.inl rfl⟩
theorem fl_X2_22_2 : z_Fl RX2 22 2 3 := ⟨_, _, rfl, by decide, Or.inl q201, Or.inl rfl⟩
theorem pl_X2_22_2 {y : MethodName} (hy : y.cls = RX2) : z_Pl y 22 2 3 := ⟨by rw [hy]; exact fl_X2_22_2, fun q hq => by cases hq; exact Or.inl rfl⟩
theorem vl_X2_25_21 : z_lkV RX2 25 M_J2_size 21 0 := ⟨cl_J2_size, q561, _, rfl, Or.inl ⟨q560, q562, ⟨by decide +kernel, by decide +kernel⟩, by decide +kernel⟩⟩
theorem vl_X2_29_21 : z_lkV RX2 29 M_J2_get 21 1 := ⟨cl_J2_get, q565, _, rfl, Or.inl ⟨q564, q566, ⟨by decide +kernel, by decide +kernel⟩, by decide +kernel⟩⟩
theorem fl_X2_35_16 : z_Fl RX2 35 16 1 := ⟨_, _, rfl, by decide, Or.inr ⟨_, q979⟩, Or.inl rfl⟩
theorem vl_X2_39_18 : z_lkV RX2 39 M_X18_holds 18 1 := ⟨cl_X18_holds, q593, _, rfl, Or.inr (Or.inr ⟨⟨"SomebodysLift$Test", "holds", "(LSomebodysLift$Look;)Z"⟩, _, q579, q581, Or.inl q580, ⟨by decide +kernel, by decide +kernel⟩, q599, by decide +kernel⟩)⟩
theorem vl_X2_39_19 : z_lkV RX2 39 M_X19_holds 19 1 := ⟨cl_X19_holds, q590, _, rfl, Or.inr (Or.inr ⟨⟨"SomebodysLift$Test", "holds", "(LSomebodysLift$Look;)Z"⟩, _, q579, q581, Or.inl q580, ⟨by decide +kernel, by decide +kernel⟩, q589, by decide +kernel⟩)⟩
theorem vl_X2_39_20 : z_lkV RX2 39 M_X20_holds 20 1 := ⟨cl_X20_holds, q583, _, rfl, Or.inr (Or.inr ⟨⟨"SomebodysLift$Test", "holds", "(LSomebodysLift$Look;)Z"⟩, _, q579, q581, Or.inl q580, ⟨by decide +kernel, by decide +kernel⟩, q582, by decide +kernel⟩)⟩
theorem fl_X2_45_16 : z_Fl RX2 45 16 0 := ⟨_, _, rfl, by decide, Or.inr ⟨_, q977⟩, Or.inl rfl⟩
theorem sl_X2_48 : z_lkS RX2 48 M_J3_min 2 := ⟨cl_J3_min, q554, ⟨by decide +kernel, by decide +kernel⟩, by decide +kernel, Or.inl q1008⟩
theorem fl_X20_13_20 : z_Fl RX20 13 20 1 := ⟨_, _, rfl, by decide, Or.inl q892, Or.inl rfl⟩
theorem pf_X20_init_13_20 : z_Pl yX20_init 13 20 1 := ⟨fl_X20_13_20, fun q hq => by cases hq; exact Or.inr ⟨⟨rfl, rfl, rfl⟩, _, q892, rfl⟩⟩
theorem fl_X20_7_20 : z_Fl RX20 7 20 0 := ⟨_, _, rfl, by decide, Or.inl q891, Or.inl rfl⟩
theorem pf_X20_init_7_20 : z_Pl yX20_init 7 20 0 := ⟨fl_X20_7_20, fun q hq => by cases hq; exact Or.inr ⟨⟨rfl, rfl, rfl⟩, _, q891, rfl⟩⟩
theorem vl_X20_19_3 : z_lkV RX20 19 M_X3_of 3 1 := ⟨cl_X3_of, q586, _, rfl, Or.inl ⟨q585, q587, ⟨by decide +kernel, by decide +kernel⟩, by decide +kernel⟩⟩
theorem fl_X20_16_20 : z_Fl RX20 16 20 2 := ⟨_, _, rfl, by decide, Or.inl q893, Or.inl rfl⟩
theorem pf_X20_init_16_20 : z_Pl yX20_init 16 20 2 := ⟨fl_X20_16_20, fun q hq => by cases hq; exact Or.inr ⟨⟨rfl, rfl, rfl⟩, _, q893, rfl⟩⟩
theorem il_X20_1 : z_lkI RX20 1 M_X17_init 0 := ⟨cl_X17_init, q850, rfl, rfl, rfl, ⟨by decide +kernel, by decide +kernel⟩, by decide +kernel, Or.inr ⟨_, q890⟩⟩
theorem fl_X3_7_3 : z_Fl RX3 7 3 0 := ⟨_, _, rfl, by decide, Or.inl q218, Or.inl rfl⟩
theorem pl_X3_7_3 {y : MethodName} (hy : y.cls = RX3) : z_Pl y 7 3 0 := ⟨by rw [hy]; exact fl_X3_7_3, fun q hq => by cases hq; exact Or.inl rfl⟩
theorem fl_X3_13_3 : z_Fl RX3 13 3 1 := ⟨_, _, rfl, by decide, Or.inl q220, Or.inl rfl⟩
theorem pl_X3_13_3 {y : MethodName} (hy : y.cls = RX3) : z_Pl y 13 3 1 := ⟨by rw [hy]; exact fl_X3_13_3, fun q hq => by cases hq; exact Or.inl rfl⟩
theorem fl_X3_16_3 : z_Fl RX3 16 3 2 := ⟨_, _, rfl, by decide, Or.inl q222, Or.inl rfl⟩
theorem pl_X3_16_3 {y : MethodName} (hy : y.cls = RX3) : z_Pl y 16 3 2 := ⟨by rw [hy]; exact fl_X3_16_3, fun q hq => by cases hq; exact Or.inl rfl⟩
theorem fl_X3_19_3 : z_Fl RX3 19 3 3 := ⟨_, _, rfl, by decide, Or.inl q224, Or.inl rfl⟩
theorem pl_X3_19_3 {y : MethodName} (hy : y.cls = RX3) : z_Pl y 19 3 3 := ⟨by rw [hy]; exact fl_X3_19_3, fun q hq => by cases hq; exact Or.inl rfl⟩
theorem fl_X3_22_3 : z_Fl RX3 22 3 4 := ⟨_, _, rfl, by decide, Or.inl q226, Or.inl rfl⟩
theorem pl_X3_22_3 {y : MethodName} (hy : y.cls = RX3) : z_Pl y 22 3 4 := ⟨by rw [hy]; exact fl_X3_22_3, fun q hq => by cases hq; exact Or.inl rfl⟩
theorem fl_X3_25_3 : z_Fl RX3 25 3 5 := ⟨_, _, rfl, by decide, Or.inl q228, Or.inl rfl⟩
theorem pl_X3_25_3 {y : MethodName} (hy : y.cls = RX3) : z_Pl y 25 3 5 := ⟨by rw [hy]; exact fl_X3_25_3, fun q hq => by cases hq; exact Or.inl rfl⟩
theorem fl_X4_9_4 : z_Fl RX4 9 4 0 := ⟨_, _, rfl, by decide, Or.inl q249, Or.inl rfl⟩
theorem pf_X4_init_9_4 : z_Pl yX4_init 9 4 0 := ⟨fl_X4_9_4, fun q hq => by cases hq; exact Or.inr ⟨⟨rfl, rfl, rfl⟩, _, q249, rfl⟩⟩
theorem fl_X4_15_4 : z_Fl RX4 15 4 1 := ⟨_, _, rfl, by decide, Or.inl q251, Or.inl rfl⟩
theorem pl_X4_15_4 {y : MethodName} (hy : y.cls = RX4) : z_Pl y 15 4 1 := ⟨by rw [hy]; exact fl_X4_15_4, fun q hq => by cases hq; exact Or.inl rfl⟩
theorem fl_X5_9_5 : z_Fl RX5 9 5 0 := ⟨_, _, rfl, by decide, Or.inl q265, Or.inl rfl⟩
theorem pl_X5_9_5 {y : MethodName} (hy : y.cls = RX5) : z_Pl y 9 5 0 := ⟨by rw [hy]; exact fl_X5_9_5, fun q hq => by cases hq; exact Or.inl rfl⟩
theorem il_X5_27 : z_lkI RX5 27 M_X15_init 1 := ⟨cl_X15_init, q807, rfl, rfl, rfl, ⟨by decide +kernel, by decide +kernel⟩, by decide +kernel, Or.inl q1381⟩
theorem vl_X5_30_5 : z_lkV RX5 30 M_X5_size 5 0 := ⟨cl_X5_size, q1384, _, rfl, Or.inl ⟨q1382, qs31, ⟨by decide +kernel, by decide +kernel⟩, by decide +kernel⟩⟩
theorem sl_X5_34 : z_lkS RX5 34 M_X0_in 3 := ⟨cl_X0_in, q396, ⟨by decide +kernel, by decide +kernel⟩, by decide +kernel, Or.inr ⟨_, q1391⟩⟩
theorem fl_X6_7_6 : z_Fl RX6 7 6 0 := ⟨_, _, rfl, by decide, Or.inl q1444, Or.inl rfl⟩
theorem pl_X6_7_6 {y : MethodName} (hy : y.cls = RX6) : z_Pl y 7 6 0 := ⟨by rw [hy]; exact fl_X6_7_6, fun q hq => by cases hq; exact Or.inl rfl⟩
theorem fl_X6_13_6 : z_Fl RX6 13 6 1 := ⟨_, _, rfl, by decide, Or.inl q1445, Or.inl rfl⟩
theorem pl_X6_13_6 {y : MethodName} (hy : y.cls = RX6) : z_Pl y 13 6 1 := ⟨by rw [hy]; exact fl_X6_13_6, fun q hq => by cases hq; exact Or.inl rfl⟩
theorem fl_X6_16_6 : z_Fl RX6 16 6 2 := ⟨_, _, rfl, by decide, Or.inl q1446, Or.inl rfl⟩
theorem pl_X6_16_6 {y : MethodName} (hy : y.cls = RX6) : z_Pl y 16 6 2 := ⟨by rw [hy]; exact fl_X6_16_6, fun q hq => by cases hq; exact Or.inl rfl⟩
theorem fl_X6_19_6 : z_Fl RX6 19 6 3 := ⟨_, _, rfl, by decide, Or.inl q1447, Or.inl rfl⟩
theorem pl_X6_19_6 {y : MethodName} (hy : y.cls = RX6) : z_Pl y 19 6 3 := ⟨by rw [hy]; exact fl_X6_19_6, fun q hq => by cases hq; exact Or.inl rfl⟩
theorem fl_X6_22_6 : z_Fl RX6 22 6 4 := ⟨_, _, rfl, by decide, Or.inl q1448, Or.inl rfl⟩
theorem pl_X6_22_6 {y : MethodName} (hy : y.cls = RX6) : z_Pl y 22 6 4 := ⟨by rw [hy]; exact fl_X6_22_6, fun q hq => by cases hq; exact Or.inl rfl⟩
theorem fl_X6_25_6 : z_Fl RX6 25 6 5 := ⟨_, _, rfl, by decide, Or.inl q1449, Or.inl rfl⟩
theorem pl_X6_25_6 {y : MethodName} (hy : y.cls = RX6) : z_Pl y 25 6 5 := ⟨by rw [hy]; exact fl_X6_25_6, fun q hq => by cases hq; exact Or.inl rfl⟩
theorem fl_X6_28_6 : z_Fl RX6 28 6 6 := ⟨_, _, rfl, by decide, Or.inl q1450, Or.inl rfl⟩
theorem pf_X6_init_28_6 : z_Pl yX6_init 28 6 6 := ⟨fl_X6_28_6, fun q hq => by cases hq; exact Or.inr ⟨⟨rfl, rfl, rfl⟩, _, q1450, rfl⟩⟩
theorem fl_X6_32_6 : z_Fl RX6 32 6 7 := ⟨_, _, rfl, by decide, Or.inl q1451, Or.inl rfl⟩
theorem pf_X6_init_32_6 : z_Pl yX6_init 32 6 7 := ⟨fl_X6_32_6, fun q hq => by cases hq; exact Or.inr ⟨⟨rfl, rfl, rfl⟩, _, q1451, rfl⟩⟩
theorem fl_X6_35_6 : z_Fl RX6 35 6 8 := ⟨_, _, rfl, by decide, Or.inl q1452, Or.inl rfl⟩
theorem pf_X6_init_35_6 : z_Pl yX6_init 35 6 8 := ⟨fl_X6_35_6, fun q hq => by cases hq; exact Or.inr ⟨⟨rfl, rfl, rfl⟩, _, q1452, rfl⟩⟩
theorem fl_X6_38_6 : z_Fl RX6 38 6 9 := ⟨_, _, rfl, by decide, Or.inl q1453, Or.inl rfl⟩
theorem pf_X6_init_38_6 : z_Pl yX6_init 38 6 9 := ⟨fl_X6_38_6, fun q hq => by cases hq; exact Or.inr ⟨⟨rfl, rfl, rfl⟩, _, q1453, rfl⟩⟩
theorem fl_X6_41_6 : z_Fl RX6 41 6 10 := ⟨_, _, rfl, by decide, Or.inl q1454, Or.inl rfl⟩
theorem pf_X6_init_41_6 : z_Pl yX6_init 41 6 10 := ⟨fl_X6_41_6, fun q hq => by cases hq; exact Or.inr ⟨⟨rfl, rfl, rfl⟩, _, q1454, rfl⟩⟩
theorem fl_X6_44_6 : z_Fl RX6 44 6 11 := ⟨_, _, rfl, by decide, Or.inl q1455, Or.inl rfl⟩
theorem pl_X6_44_6 {y : MethodName} (hy : y.cls = RX6) : z_Pl y 44 6 11 := ⟨by rw [hy]; exact fl_X6_44_6, fun q hq => by cases hq; exact Or.inl rfl⟩
theorem fl_X6_47_6 : z_Fl RX6 47 6 12 := ⟨_, _, rfl, by decide, Or.inl q1456, Or.inl rfl⟩
theorem pl_X6_47_6 {y : MethodName} (hy : y.cls = RX6) : z_Pl y 47 6 12 := ⟨by rw [hy]; exact fl_X6_47_6, fun q hq => by cases hq; exact Or.inl rfl⟩
theorem fl_X6_50_6 : z_Fl RX6 50 6 13 := ⟨_, _, rfl, by decide, Or.inl q1457, Or.inl rfl⟩
theorem pl_X6_50_6 {y : MethodName} (hy : y.cls = RX6) : z_Pl y 50 6 13 := ⟨by rw [hy]; exact fl_X6_50_6, fun q hq => by cases hq; exact Or.inl rfl⟩
theorem fl_X6_53_6 : z_Fl RX6 53 6 14 := ⟨_, _, rfl, by decide, Or.inl q1458, Or.inl rfl⟩
theorem pl_X6_53_6 {y : MethodName} (hy : y.cls = RX6) : z_Pl y 53 6 14 := ⟨by rw [hy]; exact fl_X6_53_6, fun q hq => by cases hq; exact Or.inl rfl⟩
theorem fl_X6_56_6 : z_Fl RX6 56 6 15 := ⟨_, _, rfl, by decide, Or.inl q1459, Or.inl rfl⟩
theorem pl_X6_56_6 {y : MethodName} (hy : y.cls = RX6) : z_Pl y 56 6 15 := ⟨by rw [hy]; exact fl_X6_56_6, fun q hq => by cases hq; exact Or.inl rfl⟩
theorem fl_X6_59_6 : z_Fl RX6 59 6 16 := ⟨_, _, rfl, by decide, Or.inl q1460, Or.inl rfl⟩
theorem pf_X6_init_59_6 : z_Pl yX6_init 59 6 16 := ⟨fl_X6_59_6, fun q hq => by cases hq; exact Or.inr ⟨⟨rfl, rfl, rfl⟩, _, q1460, rfl⟩⟩
theorem fl_X6_62_6 : z_Fl RX6 62 6 17 := ⟨_, _, rfl, by decide, Or.inl q1461, Or.inl rfl⟩
theorem pf_X6_init_62_6 : z_Pl yX6_init 62 6 17 := ⟨fl_X6_62_6, fun q hq => by cases hq; exact Or.inr ⟨⟨rfl, rfl, rfl⟩, _, q1461, rfl⟩⟩
theorem fl_X6_65_6 : z_Fl RX6 65 6 18 := ⟨_, _, rfl, by decide, Or.inl q1462, Or.inl rfl⟩
theorem pf_X6_init_65_6 : z_Pl yX6_init 65 6 18 := ⟨fl_X6_65_6, fun q hq => by cases hq; exact Or.inr ⟨⟨rfl, rfl, rfl⟩, _, q1462, rfl⟩⟩
theorem fl_X6_68_6 : z_Fl RX6 68 6 19 := ⟨_, _, rfl, by decide, Or.inl q1463, Or.inl rfl⟩
theorem pf_X6_init_68_6 : z_Pl yX6_init 68 6 19 := ⟨fl_X6_68_6, fun q hq => by cases hq; exact Or.inr ⟨⟨rfl, rfl, rfl⟩, _, q1463, rfl⟩⟩
theorem fl_X6_71_6 : z_Fl RX6 71 6 20 := ⟨_, _, rfl, by decide, Or.inl q1464, Or.inl rfl⟩
theorem pf_X6_init_71_6 : z_Pl yX6_init 71 6 20 := ⟨fl_X6_71_6, fun q hq => by cases hq; exact Or.inr ⟨⟨rfl, rfl, rfl⟩, _, q1464, rfl⟩⟩
theorem fl_X6_74_6 : z_Fl RX6 74 6 21 := ⟨_, _, rfl, by decide, Or.inl q1465, Or.inl rfl⟩
theorem pf_X6_init_74_6 : z_Pl yX6_init 74 6 21 := ⟨fl_X6_74_6, fun q hq => by cases hq; exact Or.inr ⟨⟨rfl, rfl, rfl⟩, _, q1465, rfl⟩⟩
theorem fl_X6_77_6 : z_Fl RX6 77 6 22 := ⟨_, _, rfl, by decide, Or.inl q1466, Or.inl rfl⟩
theorem pf_X6_init_77_6 : z_Pl yX6_init 77 6 22 := ⟨fl_X6_77_6, fun q hq => by cases hq; exact Or.inr ⟨⟨rfl, rfl, rfl⟩, _, q1466, rfl⟩⟩
theorem fl_X6_80_6 : z_Fl RX6 80 6 23 := ⟨_, _, rfl, by decide, Or.inl q1467, Or.inl rfl⟩
theorem pf_X6_init_80_6 : z_Pl yX6_init 80 6 23 := ⟨fl_X6_80_6, fun q hq => by cases hq; exact Or.inr ⟨⟨rfl, rfl, rfl⟩, _, q1467, rfl⟩⟩
theorem fl_X6_83_6 : z_Fl RX6 83 6 24 := ⟨_, _, rfl, by decide, Or.inl q1468, Or.inl rfl⟩
theorem pl_X6_83_6 {y : MethodName} (hy : y.cls = RX6) : z_Pl y 83 6 24 := ⟨by rw [hy]; exact fl_X6_83_6, fun q hq => by cases hq; exact Or.inl rfl⟩
theorem fl_X6_86_6 : z_Fl RX6 86 6 25 := ⟨_, _, rfl, by decide, Or.inl q1469, Or.inl rfl⟩
theorem pl_X6_86_6 {y : MethodName} (hy : y.cls = RX6) : z_Pl y 86 6 25 := ⟨by rw [hy]; exact fl_X6_86_6, fun q hq => by cases hq; exact Or.inl rfl⟩
theorem fl_X6_89_6 : z_Fl RX6 89 6 26 := ⟨_, _, rfl, by decide, Or.inl q1470, Or.inl rfl⟩
theorem pl_X6_89_6 {y : MethodName} (hy : y.cls = RX6) : z_Pl y 89 6 26 := ⟨by rw [hy]; exact fl_X6_89_6, fun q hq => by cases hq; exact Or.inl rfl⟩
theorem fl_X6_92_6 : z_Fl RX6 92 6 27 := ⟨_, _, rfl, by decide, Or.inl q1471, Or.inl rfl⟩
theorem pf_X6_init_92_6 : z_Pl yX6_init 92 6 27 := ⟨fl_X6_92_6, fun q hq => by cases hq; exact Or.inr ⟨⟨rfl, rfl, rfl⟩, _, q1471, rfl⟩⟩
theorem fl_X6_95_6 : z_Fl RX6 95 6 28 := ⟨_, _, rfl, by decide, Or.inl q1472, Or.inl rfl⟩
theorem pf_X6_init_95_6 : z_Pl yX6_init 95 6 28 := ⟨fl_X6_95_6, fun q hq => by cases hq; exact Or.inr ⟨⟨rfl, rfl, rfl⟩, _, q1472, rfl⟩⟩
theorem fl_X6_99_6 : z_Fl RX6 99 6 29 := ⟨_, _, rfl, by decide, Or.inl q1473, Or.inl rfl⟩
theorem pl_X6_99_6 {y : MethodName} (hy : y.cls = RX6) : z_Pl y 99 6 29 := ⟨by rw [hy]; exact fl_X6_99_6, fun q hq => by cases hq; exact Or.inl rfl⟩
theorem fl_X6_102_6 : z_Fl RX6 102 6 30 := ⟨_, _, rfl, by decide, Or.inl q1474, Or.inl rfl⟩
theorem pl_X6_102_6 {y : MethodName} (hy : y.cls = RX6) : z_Pl y 102 6 30 := ⟨by rw [hy]; exact fl_X6_102_6, fun q hq => by cases hq; exact Or.inl rfl⟩
theorem fl_X6_105_6 : z_Fl RX6 105 6 31 := ⟨_, _, rfl, by decide, Or.inl q1475, Or.inl rfl⟩
theorem pl_X6_105_6 {y : MethodName} (hy : y.cls = RX6) : z_Pl y 105 6 31 := ⟨by rw [hy]; exact fl_X6_105_6, fun q hq => by cases hq; exact Or.inl rfl⟩
theorem fl_X6_108_6 : z_Fl RX6 108 6 32 := ⟨_, _, rfl, by decide, Or.inl q1476, Or.inl rfl⟩
theorem pl_X6_108_6 {y : MethodName} (hy : y.cls = RX6) : z_Pl y 108 6 32 := ⟨by rw [hy]; exact fl_X6_108_6, fun q hq => by cases hq; exact Or.inl rfl⟩
theorem fl_X6_111_6 : z_Fl RX6 111 6 33 := ⟨_, _, rfl, by decide, Or.inl q1477, Or.inl rfl⟩
theorem pl_X6_111_6 {y : MethodName} (hy : y.cls = RX6) : z_Pl y 111 6 33 := ⟨by rw [hy]; exact fl_X6_111_6, fun q hq => by cases hq; exact Or.inl rfl⟩
theorem fl_X6_114_6 : z_Fl RX6 114 6 34 := ⟨_, _, rfl, by decide, Or.inl q1478, Or.inl rfl⟩
theorem pl_X6_114_6 {y : MethodName} (hy : y.cls = RX6) : z_Pl y 114 6 34 := ⟨by rw [hy]; exact fl_X6_114_6, fun q hq => by cases hq; exact Or.inl rfl⟩
theorem fl_X6_117_6 : z_Fl RX6 117 6 35 := ⟨_, _, rfl, by decide, Or.inl q1479, Or.inl rfl⟩
theorem pl_X6_117_6 {y : MethodName} (hy : y.cls = RX6) : z_Pl y 117 6 35 := ⟨by rw [hy]; exact fl_X6_117_6, fun q hq => by cases hq; exact Or.inl rfl⟩
theorem fl_X6_120_6 : z_Fl RX6 120 6 36 := ⟨_, _, rfl, by decide, Or.inl q1480, Or.inl rfl⟩
theorem pl_X6_120_6 {y : MethodName} (hy : y.cls = RX6) : z_Pl y 120 6 36 := ⟨by rw [hy]; exact fl_X6_120_6, fun q hq => by cases hq; exact Or.inl rfl⟩
theorem fl_X6_123_6 : z_Fl RX6 123 6 37 := ⟨_, _, rfl, by decide, Or.inl q1481, Or.inl rfl⟩
theorem pf_X6_init_123_6 : z_Pl yX6_init 123 6 37 := ⟨fl_X6_123_6, fun q hq => by cases hq; exact Or.inr ⟨⟨rfl, rfl, rfl⟩, _, q1481, rfl⟩⟩
theorem fl_X6_126_6 : z_Fl RX6 126 6 38 := ⟨_, _, rfl, by decide, Or.inl q1482, Or.inl rfl⟩
theorem pf_X6_init_126_6 : z_Pl yX6_init 126 6 38 := ⟨fl_X6_126_6, fun q hq => by cases hq; exact Or.inr ⟨⟨rfl, rfl, rfl⟩, _, q1482, rfl⟩⟩
theorem fl_X6_129_6 : z_Fl RX6 129 6 39 := ⟨_, _, rfl, by decide, Or.inl q1483, Or.inl rfl⟩
theorem pl_X6_129_6 {y : MethodName} (hy : y.cls = RX6) : z_Pl y 129 6 39 := ⟨by rw [hy]; exact fl_X6_129_6, fun q hq => by cases hq; exact Or.inl rfl⟩
theorem fl_X6_132_6 : z_Fl RX6 132 6 40 := ⟨_, _, rfl, by decide, Or.inl q1484, Or.inl rfl⟩
theorem pf_X6_init_132_6 : z_Pl yX6_init 132 6 40 := ⟨fl_X6_132_6, fun q hq => by cases hq; exact Or.inr ⟨⟨rfl, rfl, rfl⟩, _, q1484, rfl⟩⟩
theorem fl_X6_135_6 : z_Fl RX6 135 6 41 := ⟨_, _, rfl, by decide, Or.inl q1485, Or.inl rfl⟩
theorem pl_X6_135_6 {y : MethodName} (hy : y.cls = RX6) : z_Pl y 135 6 41 := ⟨by rw [hy]; exact fl_X6_135_6, fun q hq => by cases hq; exact Or.inl rfl⟩
theorem fl_X6_138_6 : z_Fl RX6 138 6 42 := ⟨_, _, rfl, by decide, Or.inl q1486, Or.inl rfl⟩
theorem pf_X6_init_138_6 : z_Pl yX6_init 138 6 42 := ⟨fl_X6_138_6, fun q hq => by cases hq; exact Or.inr ⟨⟨rfl, rfl, rfl⟩, _, q1486, rfl⟩⟩
theorem fl_X6_141_6 : z_Fl RX6 141 6 43 := ⟨_, _, rfl, by decide, Or.inl q1487, Or.inl rfl⟩
theorem pf_X6_init_141_6 : z_Pl yX6_init 141 6 43 := ⟨fl_X6_141_6, fun q hq => by cases hq; exact Or.inr ⟨⟨rfl, rfl, rfl⟩, _, q1487, rfl⟩⟩
theorem fl_X6_144_6 : z_Fl RX6 144 6 44 := ⟨_, _, rfl, by decide, Or.inl q1488, Or.inl rfl⟩
theorem pl_X6_144_6 {y : MethodName} (hy : y.cls = RX6) : z_Pl y 144 6 44 := ⟨by rw [hy]; exact fl_X6_144_6, fun q hq => by cases hq; exact Or.inl rfl⟩
theorem fl_X6_148_6 : z_Fl RX6 148 6 45 := ⟨_, _, rfl, by decide, Or.inl q1489, Or.inl rfl⟩
theorem pl_X6_148_6 {y : MethodName} (hy : y.cls = RX6) : z_Pl y 148 6 45 := ⟨by rw [hy]; exact fl_X6_148_6, fun q hq => by cases hq; exact Or.inl rfl⟩
theorem fl_X6_151_6 : z_Fl RX6 151 6 46 := ⟨_, _, rfl, by decide, Or.inl q1490, Or.inl rfl⟩
theorem pl_X6_151_6 {y : MethodName} (hy : y.cls = RX6) : z_Pl y 151 6 46 := ⟨by rw [hy]; exact fl_X6_151_6, fun q hq => by cases hq; exact Or.inl rfl⟩
theorem fl_X6_154_6 : z_Fl RX6 154 6 47 := ⟨_, _, rfl, by decide, Or.inl q1491, Or.inl rfl⟩
theorem pl_X6_154_6 {y : MethodName} (hy : y.cls = RX6) : z_Pl y 154 6 47 := ⟨by rw [hy]; exact fl_X6_154_6, fun q hq => by cases hq; exact Or.inl rfl⟩
theorem fl_X6_157_6 : z_Fl RX6 157 6 48 := ⟨_, _, rfl, by decide, Or.inl q1492, Or.inl rfl⟩
theorem pl_X6_157_6 {y : MethodName} (hy : y.cls = RX6) : z_Pl y 157 6 48 := ⟨by rw [hy]; exact fl_X6_157_6, fun q hq => by cases hq; exact Or.inl rfl⟩
theorem fl_X6_160_6 : z_Fl RX6 160 6 49 := ⟨_, _, rfl, by decide, Or.inl q1493, Or.inl rfl⟩
theorem pl_X6_160_6 {y : MethodName} (hy : y.cls = RX6) : z_Pl y 160 6 49 := ⟨by rw [hy]; exact fl_X6_160_6, fun q hq => by cases hq; exact Or.inl rfl⟩
theorem fl_X6_163_6 : z_Fl RX6 163 6 50 := ⟨_, _, rfl, by decide, Or.inl q1494, Or.inl rfl⟩
theorem pl_X6_163_6 {y : MethodName} (hy : y.cls = RX6) : z_Pl y 163 6 50 := ⟨by rw [hy]; exact fl_X6_163_6, fun q hq => by cases hq; exact Or.inl rfl⟩
theorem fl_X6_166_6 : z_Fl RX6 166 6 51 := ⟨_, _, rfl, by decide, Or.inl q1495, Or.inl rfl⟩
theorem pl_X6_166_6 {y : MethodName} (hy : y.cls = RX6) : z_Pl y 166 6 51 := ⟨by rw [hy]; exact fl_X6_166_6, fun q hq => by cases hq; exact Or.inl rfl⟩
theorem fl_X6_169_6 : z_Fl RX6 169 6 52 := ⟨_, _, rfl, by decide, Or.inl q1496, Or.inl rfl⟩
theorem pl_X6_169_6 {y : MethodName} (hy : y.cls = RX6) : z_Pl y 169 6 52 := ⟨by rw [hy]; exact fl_X6_169_6, fun q hq => by cases hq; exact Or.inl rfl⟩
theorem fl_X6_172_6 : z_Fl RX6 172 6 53 := ⟨_, _, rfl, by decide, Or.inl q1497, Or.inl rfl⟩
theorem pl_X6_172_6 {y : MethodName} (hy : y.cls = RX6) : z_Pl y 172 6 53 := ⟨by rw [hy]; exact fl_X6_172_6, fun q hq => by cases hq; exact Or.inl rfl⟩
theorem fl_X6_175_6 : z_Fl RX6 175 6 54 := ⟨_, _, rfl, by decide, Or.inl q1498, Or.inl rfl⟩
theorem pl_X6_175_6 {y : MethodName} (hy : y.cls = RX6) : z_Pl y 175 6 54 := ⟨by rw [hy]; exact fl_X6_175_6, fun q hq => by cases hq; exact Or.inl rfl⟩
theorem fl_X6_178_6 : z_Fl RX6 178 6 55 := ⟨_, _, rfl, by decide, Or.inl q1499, Or.inl rfl⟩
theorem pf_X6_init_178_6 : z_Pl yX6_init 178 6 55 := ⟨fl_X6_178_6, fun q hq => by cases hq; exact Or.inr ⟨⟨rfl, rfl, rfl⟩, _, q1499, rfl⟩⟩
theorem fl_X6_181_6 : z_Fl RX6 181 6 56 := ⟨_, _, rfl, by decide, Or.inl q1500, Or.inl rfl⟩
theorem pf_X6_init_181_6 : z_Pl yX6_init 181 6 56 := ⟨fl_X6_181_6, fun q hq => by cases hq; exact Or.inr ⟨⟨rfl, rfl, rfl⟩, _, q1500, rfl⟩⟩
theorem fl_X6_184_6 : z_Fl RX6 184 6 57 := ⟨_, _, rfl, by decide, Or.inl q1501, Or.inl rfl⟩
theorem pf_X6_init_184_6 : z_Pl yX6_init 184 6 57 := ⟨fl_X6_184_6, fun q hq => by cases hq; exact Or.inr ⟨⟨rfl, rfl, rfl⟩, _, q1501, rfl⟩⟩
theorem fl_X6_187_6 : z_Fl RX6 187 6 58 := ⟨_, _, rfl, by decide, Or.inl q1502, Or.inl rfl⟩
theorem pf_X6_init_187_6 : z_Pl yX6_init 187 6 58 := ⟨fl_X6_187_6, fun q hq => by cases hq; exact Or.inr ⟨⟨rfl, rfl, rfl⟩, _, q1502, rfl⟩⟩
theorem fl_X6_190_6 : z_Fl RX6 190 6 59 := ⟨_, _, rfl, by decide, Or.inl q1503, Or.inl rfl⟩
theorem pf_X6_init_190_6 : z_Pl yX6_init 190 6 59 := ⟨fl_X6_190_6, fun q hq => by cases hq; exact Or.inr ⟨⟨rfl, rfl, rfl⟩, _, q1503, rfl⟩⟩
theorem fl_X6_193_6 : z_Fl RX6 193 6 60 := ⟨_, _, rfl, by decide, Or.inl q1504, Or.inl rfl⟩
theorem pf_X6_init_193_6 : z_Pl yX6_init 193 6 60 := ⟨fl_X6_193_6, fun q hq => by cases hq; exact Or.inr ⟨⟨rfl, rfl, rfl⟩, _, q1504, rfl⟩⟩
theorem fl_X6_196_6 : z_Fl RX6 196 6 61 := ⟨_, _, rfl, by decide, Or.inl q1505, Or.inl rfl⟩
theorem pf_X6_init_196_6 : z_Pl yX6_init 196 6 61 := ⟨fl_X6_196_6, fun q hq => by cases hq; exact Or.inr ⟨⟨rfl, rfl, rfl⟩, _, q1505, rfl⟩⟩
theorem fl_X6_199_6 : z_Fl RX6 199 6 62 := ⟨_, _, rfl, by decide, Or.inl q1506, Or.inl rfl⟩
theorem pf_X6_init_199_6 : z_Pl yX6_init 199 6 62 := ⟨fl_X6_199_6, fun q hq => by cases hq; exact Or.inr ⟨⟨rfl, rfl, rfl⟩, _, q1506, rfl⟩⟩
theorem fl_X6_202_6 : z_Fl RX6 202 6 63 := ⟨_, _, rfl, by decide, Or.inl q1507, Or.inl rfl⟩
theorem pf_X6_init_202_6 : z_Pl yX6_init 202 6 63 := ⟨fl_X6_202_6, fun q hq => by cases hq; exact Or.inr ⟨⟨rfl, rfl, rfl⟩, _, q1507, rfl⟩⟩
theorem fl_X6_205_6 : z_Fl RX6 205 6 64 := ⟨_, _, rfl, by decide, Or.inl q1508, Or.inl rfl⟩
theorem pf_X6_init_205_6 : z_Pl yX6_init 205 6 64 := ⟨fl_X6_205_6, fun q hq => by cases hq; exact Or.inr ⟨⟨rfl, rfl, rfl⟩, _, q1508, rfl⟩⟩
theorem fl_X6_208_6 : z_Fl RX6 208 6 65 := ⟨_, _, rfl, by decide, Or.inl q1509, Or.inl rfl⟩
theorem pl_X6_208_6 {y : MethodName} (hy : y.cls = RX6) : z_Pl y 208 6 65 := ⟨by rw [hy]; exact fl_X6_208_6, fun q hq => by cases hq; exact Or.inl rfl⟩
theorem fl_X6_211_6 : z_Fl RX6 211 6 66 := ⟨_, _, rfl, by decide, Or.inl q1510, Or.inl rfl⟩
theorem pf_X6_init_211_6 : z_Pl yX6_init 211 6 66 := ⟨fl_X6_211_6, fun q hq => by cases hq; exact Or.inr ⟨⟨rfl, rfl, rfl⟩, _, q1510, rfl⟩⟩
theorem fl_X6_214_6 : z_Fl RX6 214 6 67 := ⟨_, _, rfl, by decide, Or.inl q1511, Or.inl rfl⟩
theorem pf_X6_init_214_6 : z_Pl yX6_init 214 6 67 := ⟨fl_X6_214_6, fun q hq => by cases hq; exact Or.inr ⟨⟨rfl, rfl, rfl⟩, _, q1511, rfl⟩⟩
theorem fl_X6_217_6 : z_Fl RX6 217 6 68 := ⟨_, _, rfl, by decide, Or.inl q1512, Or.inl rfl⟩
theorem pf_X6_init_217_6 : z_Pl yX6_init 217 6 68 := ⟨fl_X6_217_6, fun q hq => by cases hq; exact Or.inr ⟨⟨rfl, rfl, rfl⟩, _, q1512, rfl⟩⟩
theorem fl_X6_220_6 : z_Fl RX6 220 6 69 := ⟨_, _, rfl, by decide, Or.inl q1513, Or.inl rfl⟩
theorem pf_X6_init_220_6 : z_Pl yX6_init 220 6 69 := ⟨fl_X6_220_6, fun q hq => by cases hq; exact Or.inr ⟨⟨rfl, rfl, rfl⟩, _, q1513, rfl⟩⟩
theorem fl_X6_224_6 : z_Fl RX6 224 6 70 := ⟨_, _, rfl, by decide, Or.inl q1514, Or.inl rfl⟩
theorem pf_X6_init_224_6 : z_Pl yX6_init 224 6 70 := ⟨fl_X6_224_6, fun q hq => by cases hq; exact Or.inr ⟨⟨rfl, rfl, rfl⟩, _, q1514, rfl⟩⟩
theorem vl_X6_227_6 : z_lkV RX6 227 M_X6_in 6 3 := ⟨cl_X6_in, q1664, _, rfl, Or.inl ⟨q1662, qs32, ⟨by decide +kernel, by decide +kernel⟩, by decide +kernel⟩⟩
theorem vl_X6_231_6 : z_lkV RX6 231 M_X6_isMile 6 1 := ⟨cl_X6_isMile, q1668, _, rfl, Or.inl ⟨q1666, qs33, ⟨by decide +kernel, by decide +kernel⟩, by decide +kernel⟩⟩
theorem vl_X6_235_6 : z_lkV RX6 235 M_X6_isLift 6 1 := ⟨cl_X6_isLift, q1676, _, rfl, Or.inl ⟨q1674, qs34, ⟨by decide +kernel, by decide +kernel⟩, by decide +kernel⟩⟩
theorem vl_X6_282_6 : z_lkV RX6 282 M_X6_goesText 6 1 := ⟨cl_X6_goesText, q1700, _, rfl, Or.inl ⟨q1698, qs35, ⟨by decide +kernel, by decide +kernel⟩, by decide +kernel⟩⟩
theorem vl_X6_279_6 : z_lkV RX6 279 M_X6_takesClause 6 1 := ⟨cl_X6_takesClause, q1704, _, rfl, Or.inl ⟨q1702, qs36, ⟨by decide +kernel, by decide +kernel⟩, by decide +kernel⟩⟩
theorem vl_X6_242_6 : z_lkV RX6 242 M_X6_takes 6 1 := ⟨cl_X6_takes, q1720, _, rfl, Or.inl ⟨q1718, qs40, ⟨by decide +kernel, by decide +kernel⟩, by decide +kernel⟩⟩
theorem vl_X6_273_6 : z_lkV RX6 273 M_X6_takesHead 6 1 := ⟨cl_X6_takesHead, q1708, _, rfl, Or.inl ⟨q1706, qs37, ⟨by decide +kernel, by decide +kernel⟩, by decide +kernel⟩⟩
theorem vl_X6_257_6 : z_lkV RX6 257 M_X6_takesNumber 6 0 := ⟨cl_X6_takesNumber, q1724, _, rfl, Or.inl ⟨q1722, qs41, ⟨by decide +kernel, by decide +kernel⟩, by decide +kernel⟩⟩
theorem vl_X6_276_6 : z_lkV RX6 276 M_X6_takesE 6 1 := ⟨cl_X6_takesE, q1732, _, rfl, Or.inl ⟨q1730, qs43, ⟨by decide +kernel, by decide +kernel⟩, by decide +kernel⟩⟩
theorem vl_X6_238_6 : z_lkV RX6 238 M_X6_peek 6 0 := ⟨cl_X6_peek, q1712, _, rfl, Or.inl ⟨q1710, qs38, ⟨by decide +kernel, by decide +kernel⟩, by decide +kernel⟩⟩
theorem vl_X6_269_6 : z_lkV RX6 269 M_X6_takesWord 6 2 := ⟨cl_X6_takesWord, q1716, _, rfl, Or.inl ⟨q1714, qs39, ⟨by decide +kernel, by decide +kernel⟩, by decide +kernel⟩⟩
theorem vl_X6_245_6 : z_lkV RX6 245 M_X6_isDigit 6 0 := ⟨cl_X6_isDigit, q1728, _, rfl, Or.inl ⟨q1726, qs42, ⟨by decide +kernel, by decide +kernel⟩, by decide +kernel⟩⟩
theorem vl_X6_263_6 : z_lkV RX6 263 M_X6_takesTest 6 0 := ⟨cl_X6_takesTest, q1736, _, rfl, Or.inl ⟨q1734, qs44, ⟨by decide +kernel, by decide +kernel⟩, by decide +kernel⟩⟩
theorem vl_X6_266_6 : z_lkV RX6 266 M_X6_settle 6 1 := ⟨cl_X6_settle, q1752, _, rfl, Or.inl ⟨q1750, qs48, ⟨by decide +kernel, by decide +kernel⟩, by decide +kernel⟩⟩
theorem vl_X6_260_6 : z_lkV RX6 260 M_X6_whole 6 0 := ⟨cl_X6_whole, q1748, _, rfl, Or.inl ⟨q1746, qs47, ⟨by decide +kernel, by decide +kernel⟩, by decide +kernel⟩⟩
theorem vl_X6_253_6 : z_lkV RX6 253 M_X6_place 6 1 := ⟨cl_X6_place, q1740, _, rfl, Or.inl ⟨q1738, qs45, ⟨by decide +kernel, by decide +kernel⟩, by decide +kernel⟩⟩
theorem vl_X6_249_6 : z_lkV RX6 249 M_X6_emits 6 1 := ⟨cl_X6_emits, q1744, _, rfl, Or.inl ⟨q1742, qs46, ⟨by decide +kernel, by decide +kernel⟩, by decide +kernel⟩⟩
theorem vl_X6_301_6 : z_lkV RX6 301 M_X6_gain 6 1 := ⟨cl_X6_gain, q1760, _, rfl, Or.inl ⟨q1758, qs49, ⟨by decide +kernel, by decide +kernel⟩, by decide +kernel⟩⟩
theorem vl_X6_304_6 : z_lkV RX6 304 M_X6_climb 6 1 := ⟨cl_X6_climb, q1780, _, rfl, Or.inl ⟨q1778, qs54, ⟨by decide +kernel, by decide +kernel⟩, by decide +kernel⟩⟩
theorem vl_X6_285_6 : z_lkV RX6 285 M_X6_begin 6 0 := ⟨cl_X6_begin, q1764, _, rfl, Or.inl ⟨q1762, qs50, ⟨by decide +kernel, by decide +kernel⟩, by decide +kernel⟩⟩
theorem vl_X6_288_6 : z_lkV RX6 288 M_X6_behind 6 0 := ⟨cl_X6_behind, q1768, _, rfl, Or.inl ⟨q1766, qs51, ⟨by decide +kernel, by decide +kernel⟩, by decide +kernel⟩⟩
theorem vl_X6_298_6 : z_lkV RX6 298 M_X6_holds 6 2 := ⟨cl_X6_holds, q1772, _, rfl, Or.inl ⟨q1770, qs52, ⟨by decide +kernel, by decide +kernel⟩, by decide +kernel⟩⟩
theorem vl_X6_295_6 : z_lkV RX6 295 M_X6_factOf 6 2 := ⟨cl_X6_factOf, q1776, _, rfl, Or.inl ⟨q1774, qs53, ⟨by decide +kernel, by decide +kernel⟩, by decide +kernel⟩⟩
theorem vl_X6_307_6 : z_lkV RX6 307 M_X6_base 6 0 := ⟨cl_X6_base, q1788, _, rfl, Or.inl ⟨q1786, qs55, ⟨by decide +kernel, by decide +kernel⟩, by decide +kernel⟩⟩
theorem vl_X6_310_6 : z_lkV RX6 310 M_X6_safe 6 0 := ⟨cl_X6_safe, q1796, _, rfl, Or.inl ⟨q1794, qs57, ⟨by decide +kernel, by decide +kernel⟩, by decide +kernel⟩⟩
theorem vl_X6_291_6 : z_lkV RX6 291 M_X6_lastOf 6 2 := ⟨cl_X6_lastOf, q1792, _, rfl, Or.inl ⟨q1790, qs56, ⟨by decide +kernel, by decide +kernel⟩, by decide +kernel⟩⟩
theorem vl_X6_320_6 : z_lkV RX6 320 M_X6_isTime 6 1 := ⟨cl_X6_isTime, q1808, _, rfl, Or.inl ⟨q1806, qs58, ⟨by decide +kernel, by decide +kernel⟩, by decide +kernel⟩⟩
theorem vl_X6_323_6 : z_lkV RX6 323 M_X6_goMinute 6 1 := ⟨cl_X6_goMinute, q1812, _, rfl, Or.inl ⟨q1810, qs59, ⟨by decide +kernel, by decide +kernel⟩, by decide +kernel⟩⟩
theorem vl_X6_326_6 : z_lkV RX6 326 M_X6_isPace 6 1 := ⟨cl_X6_isPace, q1820, _, rfl, Or.inl ⟨q1818, qs60, ⟨by decide +kernel, by decide +kernel⟩, by decide +kernel⟩⟩
theorem vl_X6_313_6 : z_lkV RX6 313 M_X6_apart 6 2 := ⟨cl_X6_apart, q1824, _, rfl, Or.inl ⟨q1822, qs61, ⟨by decide +kernel, by decide +kernel⟩, by decide +kernel⟩⟩
theorem vl_X6_329_6 : z_lkV RX6 329 M_X6_goGlide 6 2 := ⟨cl_X6_goGlide, q1828, _, rfl, Or.inl ⟨q1826, qs62, ⟨by decide +kernel, by decide +kernel⟩, by decide +kernel⟩⟩
theorem vl_X6_316_6 : z_lkV RX6 316 M_X6_falls 6 3 := ⟨cl_X6_falls, q1832, _, rfl, Or.inl ⟨q1830, qs63, ⟨by decide +kernel, by decide +kernel⟩, by decide +kernel⟩⟩
theorem vl_X6_338_6 : z_lkV RX6 338 M_X6_upOf 6 2 := ⟨cl_X6_upOf, q1840, _, rfl, Or.inl ⟨q1838, qs64, ⟨by decide +kernel, by decide +kernel⟩, by decide +kernel⟩⟩
theorem vl_X6_332_6 : z_lkV RX6 332 M_X6_save 6 0 := ⟨cl_X6_save, q1844, _, rfl, Or.inl ⟨q1842, qs65, ⟨by decide +kernel, by decide +kernel⟩, by decide +kernel⟩⟩
theorem vl_X6_335_6 : z_lkV RX6 335 M_X6_putBack 6 0 := ⟨cl_X6_putBack, q1848, _, rfl, Or.inl ⟨q1846, qs66, ⟨by decide +kernel, by decide +kernel⟩, by decide +kernel⟩⟩
theorem vl_X6_341_6 : z_lkV RX6 341 M_X6_canReach 6 2 := ⟨cl_X6_canReach, q1868, _, rfl, Or.inl ⟨q1866, qs67, ⟨by decide +kernel, by decide +kernel⟩, by decide +kernel⟩⟩
theorem vl_X6_348_6 : z_lkV RX6 348 M_X6_byOf 6 3 := ⟨cl_X6_byOf, q1884, _, rfl, Or.inl ⟨q1882, qs68, ⟨by decide +kernel, by decide +kernel⟩, by decide +kernel⟩⟩
theorem vl_X6_344_6 : z_lkV RX6 344 M_X6_rises 6 4 := ⟨cl_X6_rises, q1888, _, rfl, Or.inl ⟨q1886, qs69, ⟨by decide +kernel, by decide +kernel⟩, by decide +kernel⟩⟩
theorem vl_X6_351_6 : z_lkV RX6 351 M_X6_straightOf 6 1 := ⟨cl_X6_straightOf, q1896, _, rfl, Or.inl ⟨q1894, qs70, ⟨by decide +kernel, by decide +kernel⟩, by decide +kernel⟩⟩
theorem vl_X6_358_6 : z_lkV RX6 358 M_X6_layBest 6 1 := ⟨cl_X6_layBest, q1904, _, rfl, Or.inl ⟨q1902, qs71, ⟨by decide +kernel, by decide +kernel⟩, by decide +kernel⟩⟩
theorem vl_X6_354_6 : z_lkV RX6 354 M_X6_takesBest 6 3 := ⟨cl_X6_takesBest, q1908, _, rfl, Or.inl ⟨q1906, qs72, ⟨by decide +kernel, by decide +kernel⟩, by decide +kernel⟩⟩
theorem vl_X6_361_6 : z_lkV RX6 361 M_X6_isSeen 6 1 := ⟨cl_X6_isSeen, q1936, _, rfl, Or.inl ⟨q1934, qs73, ⟨by decide +kernel, by decide +kernel⟩, by decide +kernel⟩⟩
theorem vl_X6_369_6 : z_lkV RX6 369 M_X6_lowestTerms 6 3 := ⟨cl_X6_lowestTerms, q1945, _, rfl, Or.inl ⟨q1943, qs74, ⟨by decide +kernel, by decide +kernel⟩, by decide +kernel⟩⟩
theorem vl_X6_364_6 : z_lkV RX6 364 M_X6_divisor 6 2 := ⟨cl_X6_divisor, q1949, _, rfl, Or.inl ⟨q1947, qs75, ⟨by decide +kernel, by decide +kernel⟩, by decide +kernel⟩⟩
theorem vl_X6_373_6 : z_lkV RX6 373 M_X6_isTape 6 1 := ⟨cl_X6_isTape, q1969, _, rfl, Or.inl ⟨q1967, qs76, ⟨by decide +kernel, by decide +kernel⟩, by decide +kernel⟩⟩
theorem vl_X6_382_6 : z_lkV RX6 382 M_X6_turnsAct 6 2 := ⟨cl_X6_turnsAct, q1985, _, rfl, Or.inl ⟨q1983, qs77, ⟨by decide +kernel, by decide +kernel⟩, by decide +kernel⟩⟩
theorem vl_X6_391_6 : z_lkV RX6 391 M_X6_climbsAct 6 2 := ⟨cl_X6_climbsAct, q1997, _, rfl, Or.inl ⟨q1995, qs80, ⟨by decide +kernel, by decide +kernel⟩, by decide +kernel⟩⟩
theorem vl_X6_397_6 : z_lkV RX6 397 M_X6_tellsAct 6 2 := ⟨cl_X6_tellsAct, q2009, _, rfl, Or.inl ⟨q2007, qs83, ⟨by decide +kernel, by decide +kernel⟩, by decide +kernel⟩⟩
theorem vl_X6_376_6 : z_lkV RX6 376 M_X6_body 6 1 := ⟨cl_X6_body, q1989, _, rfl, Or.inl ⟨q1987, qs78, ⟨by decide +kernel, by decide +kernel⟩, by decide +kernel⟩⟩
theorem vl_X6_379_6 : z_lkV RX6 379 M_X6_liftTurns 6 2 := ⟨cl_X6_liftTurns, q1993, _, rfl, Or.inl ⟨q1991, qs79, ⟨by decide +kernel, by decide +kernel⟩, by decide +kernel⟩⟩
theorem vl_X6_388_6 : z_lkV RX6 388 M_X6_strongClimbs 6 2 := ⟨cl_X6_strongClimbs, q2001, _, rfl, Or.inl ⟨q1999, qs81, ⟨by decide +kernel, by decide +kernel⟩, by decide +kernel⟩⟩
theorem vl_X6_385_6 : z_lkV RX6 385 M_X6_liftClimbs 6 2 := ⟨cl_X6_liftClimbs, q2005, _, rfl, Or.inl ⟨q2003, qs82, ⟨by decide +kernel, by decide +kernel⟩, by decide +kernel⟩⟩
theorem vl_X6_394_6 : z_lkV RX6 394 M_X6_liftTells 6 2 := ⟨cl_X6_liftTells, q2013, _, rfl, Or.inl ⟨q2011, qs84, ⟨by decide +kernel, by decide +kernel⟩, by decide +kernel⟩⟩
theorem vl_X6_400_6 : z_lkV RX6 400 M_X6_narrow 6 2 := ⟨cl_X6_narrow, q2037, _, rfl, Or.inl ⟨q2035, qs85, ⟨by decide +kernel, by decide +kernel⟩, by decide +kernel⟩⟩
theorem fl_X7_7_10 : z_Fl RX7 7 10 0 := ⟨_, _, rfl, by decide, Or.inl q414, Or.inl rfl⟩
theorem pf_X7_init_7_10 : z_Pl yX7_init 7 10 0 := ⟨fl_X7_7_10, fun q hq => by cases hq; exact Or.inr ⟨⟨rfl, rfl, rfl⟩, _, q414, rfl⟩⟩
theorem fl_X7_7_11 : z_Fl RX7 7 11 0 := ⟨_, _, rfl, by decide, Or.inl q414, Or.inl rfl⟩
theorem pf_X7_init_7_11 : z_Pl yX7_init 7 11 0 := ⟨fl_X7_7_11, fun q hq => by cases hq; exact Or.inr ⟨⟨rfl, rfl, rfl⟩, _, q414, rfl⟩⟩
theorem fl_X7_7_12 : z_Fl RX7 7 12 0 := ⟨_, _, rfl, by decide, Or.inl q414, Or.inl rfl⟩
theorem pf_X7_init_7_12 : z_Pl yX7_init 7 12 0 := ⟨fl_X7_7_12, fun q hq => by cases hq; exact Or.inr ⟨⟨rfl, rfl, rfl⟩, _, q414, rfl⟩⟩
theorem fl_X7_7_13 : z_Fl RX7 7 13 0 := ⟨_, _, rfl, by decide, Or.inl q414, Or.inl rfl⟩
theorem pf_X7_init_7_13 : z_Pl yX7_init 7 13 0 := ⟨fl_X7_7_13, fun q hq => by cases hq; exact Or.inr ⟨⟨rfl, rfl, rfl⟩, _, q414, rfl⟩⟩
theorem fl_X7_7_7 : z_Fl RX7 7 7 0 := ⟨_, _, rfl, by decide, Or.inl q414, Or.inl rfl⟩
theorem pf_X7_init_7_7 : z_Pl yX7_init 7 7 0 := ⟨fl_X7_7_7, fun q hq => by cases hq; exact Or.inr ⟨⟨rfl, rfl, rfl⟩, _, q414, rfl⟩⟩
theorem fl_X7_7_8 : z_Fl RX7 7 8 0 := ⟨_, _, rfl, by decide, Or.inl q414, Or.inl rfl⟩
theorem pf_X7_init_7_8 : z_Pl yX7_init 7 8 0 := ⟨fl_X7_7_8, fun q hq => by cases hq; exact Or.inr ⟨⟨rfl, rfl, rfl⟩, _, q414, rfl⟩⟩
theorem fl_X7_7_9 : z_Fl RX7 7 9 0 := ⟨_, _, rfl, by decide, Or.inl q414, Or.inl rfl⟩
theorem pf_X7_init_7_9 : z_Pl yX7_init 7 9 0 := ⟨fl_X7_7_9, fun q hq => by cases hq; exact Or.inr ⟨⟨rfl, rfl, rfl⟩, _, q414, rfl⟩⟩
theorem fl_X7_13_10 : z_Fl RX7 13 10 1 := ⟨_, _, rfl, by decide, Or.inl q427, Or.inl rfl⟩
theorem pf_X7_init_13_10 : z_Pl yX7_init 13 10 1 := ⟨fl_X7_13_10, fun q hq => by cases hq; exact Or.inr ⟨⟨rfl, rfl, rfl⟩, _, q427, rfl⟩⟩
theorem fl_X7_13_11 : z_Fl RX7 13 11 1 := ⟨_, _, rfl, by decide, Or.inl q427, Or.inl rfl⟩
theorem pf_X7_init_13_11 : z_Pl yX7_init 13 11 1 := ⟨fl_X7_13_11, fun q hq => by cases hq; exact Or.inr ⟨⟨rfl, rfl, rfl⟩, _, q427, rfl⟩⟩
theorem fl_X7_13_12 : z_Fl RX7 13 12 1 := ⟨_, _, rfl, by decide, Or.inl q427, Or.inl rfl⟩
theorem pf_X7_init_13_12 : z_Pl yX7_init 13 12 1 := ⟨fl_X7_13_12, fun q hq => by cases hq; exact Or.inr ⟨⟨rfl, rfl, rfl⟩, _, q427, rfl⟩⟩
theorem fl_X7_13_13 : z_Fl RX7 13 13 1 := ⟨_, _, rfl, by decide, Or.inl q427, Or.inl rfl⟩
theorem pf_X7_init_13_13 : z_Pl yX7_init 13 13 1 := ⟨fl_X7_13_13, fun q hq => by cases hq; exact Or.inr ⟨⟨rfl, rfl, rfl⟩, _, q427, rfl⟩⟩
theorem fl_X7_13_7 : z_Fl RX7 13 7 1 := ⟨_, _, rfl, by decide, Or.inl q427, Or.inl rfl⟩
theorem pf_X7_init_13_7 : z_Pl yX7_init 13 7 1 := ⟨fl_X7_13_7, fun q hq => by cases hq; exact Or.inr ⟨⟨rfl, rfl, rfl⟩, _, q427, rfl⟩⟩
theorem fl_X7_13_8 : z_Fl RX7 13 8 1 := ⟨_, _, rfl, by decide, Or.inl q427, Or.inl rfl⟩
theorem pf_X7_init_13_8 : z_Pl yX7_init 13 8 1 := ⟨fl_X7_13_8, fun q hq => by cases hq; exact Or.inr ⟨⟨rfl, rfl, rfl⟩, _, q427, rfl⟩⟩
theorem fl_X7_13_9 : z_Fl RX7 13 9 1 := ⟨_, _, rfl, by decide, Or.inl q427, Or.inl rfl⟩
theorem pf_X7_init_13_9 : z_Pl yX7_init 13 9 1 := ⟨fl_X7_13_9, fun q hq => by cases hq; exact Or.inr ⟨⟨rfl, rfl, rfl⟩, _, q427, rfl⟩⟩
theorem fl_X7_17_10 : z_Fl RX7 17 10 2 := ⟨_, _, rfl, by decide, Or.inl q432, Or.inl rfl⟩
theorem pf_X7_init_17_10 : z_Pl yX7_init 17 10 2 := ⟨fl_X7_17_10, fun q hq => by cases hq; exact Or.inr ⟨⟨rfl, rfl, rfl⟩, _, q432, rfl⟩⟩
theorem fl_X7_17_11 : z_Fl RX7 17 11 2 := ⟨_, _, rfl, by decide, Or.inl q432, Or.inl rfl⟩
theorem pf_X7_init_17_11 : z_Pl yX7_init 17 11 2 := ⟨fl_X7_17_11, fun q hq => by cases hq; exact Or.inr ⟨⟨rfl, rfl, rfl⟩, _, q432, rfl⟩⟩
theorem fl_X7_17_12 : z_Fl RX7 17 12 2 := ⟨_, _, rfl, by decide, Or.inl q432, Or.inl rfl⟩
theorem pf_X7_init_17_12 : z_Pl yX7_init 17 12 2 := ⟨fl_X7_17_12, fun q hq => by cases hq; exact Or.inr ⟨⟨rfl, rfl, rfl⟩, _, q432, rfl⟩⟩
theorem fl_X7_17_13 : z_Fl RX7 17 13 2 := ⟨_, _, rfl, by decide, Or.inl q432, Or.inl rfl⟩
theorem pf_X7_init_17_13 : z_Pl yX7_init 17 13 2 := ⟨fl_X7_17_13, fun q hq => by cases hq; exact Or.inr ⟨⟨rfl, rfl, rfl⟩, _, q432, rfl⟩⟩
theorem fl_X7_17_7 : z_Fl RX7 17 7 2 := ⟨_, _, rfl, by decide, Or.inl q432, Or.inl rfl⟩
theorem pf_X7_init_17_7 : z_Pl yX7_init 17 7 2 := ⟨fl_X7_17_7, fun q hq => by cases hq; exact Or.inr ⟨⟨rfl, rfl, rfl⟩, _, q432, rfl⟩⟩
theorem fl_X7_17_8 : z_Fl RX7 17 8 2 := ⟨_, _, rfl, by decide, Or.inl q432, Or.inl rfl⟩
theorem pf_X7_init_17_8 : z_Pl yX7_init 17 8 2 := ⟨fl_X7_17_8, fun q hq => by cases hq; exact Or.inr ⟨⟨rfl, rfl, rfl⟩, _, q432, rfl⟩⟩
theorem fl_X7_17_9 : z_Fl RX7 17 9 2 := ⟨_, _, rfl, by decide, Or.inl q432, Or.inl rfl⟩
theorem pf_X7_init_17_9 : z_Pl yX7_init 17 9 2 := ⟨fl_X7_17_9, fun q hq => by cases hq; exact Or.inr ⟨⟨rfl, rfl, rfl⟩, _, q432, rfl⟩⟩
theorem fl_X7_20_10 : z_Fl RX7 20 10 3 := ⟨_, _, rfl, by decide, Or.inl q442, Or.inl rfl⟩
theorem pf_X7_init_20_10 : z_Pl yX7_init 20 10 3 := ⟨fl_X7_20_10, fun q hq => by cases hq; exact Or.inr ⟨⟨rfl, rfl, rfl⟩, _, q442, rfl⟩⟩
theorem fl_X7_20_11 : z_Fl RX7 20 11 3 := ⟨_, _, rfl, by decide, Or.inl q442, Or.inl rfl⟩
theorem pf_X7_init_20_11 : z_Pl yX7_init 20 11 3 := ⟨fl_X7_20_11, fun q hq => by cases hq; exact Or.inr ⟨⟨rfl, rfl, rfl⟩, _, q442, rfl⟩⟩
theorem fl_X7_20_12 : z_Fl RX7 20 12 3 := ⟨_, _, rfl, by decide, Or.inl q442, Or.inl rfl⟩
theorem pf_X7_init_20_12 : z_Pl yX7_init 20 12 3 := ⟨fl_X7_20_12, fun q hq => by cases hq; exact Or.inr ⟨⟨rfl, rfl, rfl⟩, _, q442, rfl⟩⟩
theorem fl_X7_20_13 : z_Fl RX7 20 13 3 := ⟨_, _, rfl, by decide, Or.inl q442, Or.inl rfl⟩
theorem pf_X7_init_20_13 : z_Pl yX7_init 20 13 3 := ⟨fl_X7_20_13, fun q hq => by cases hq; exact Or.inr ⟨⟨rfl, rfl, rfl⟩, _, q442, rfl⟩⟩
theorem fl_X7_20_7 : z_Fl RX7 20 7 3 := ⟨_, _, rfl, by decide, Or.inl q442, Or.inl rfl⟩
theorem pf_X7_init_20_7 : z_Pl yX7_init 20 7 3 := ⟨fl_X7_20_7, fun q hq => by cases hq; exact Or.inr ⟨⟨rfl, rfl, rfl⟩, _, q442, rfl⟩⟩
theorem fl_X7_20_8 : z_Fl RX7 20 8 3 := ⟨_, _, rfl, by decide, Or.inl q442, Or.inl rfl⟩
theorem pf_X7_init_20_8 : z_Pl yX7_init 20 8 3 := ⟨fl_X7_20_8, fun q hq => by cases hq; exact Or.inr ⟨⟨rfl, rfl, rfl⟩, _, q442, rfl⟩⟩
theorem fl_X7_20_9 : z_Fl RX7 20 9 3 := ⟨_, _, rfl, by decide, Or.inl q442, Or.inl rfl⟩
theorem pf_X7_init_20_9 : z_Pl yX7_init 20 9 3 := ⟨fl_X7_20_9, fun q hq => by cases hq; exact Or.inr ⟨⟨rfl, rfl, rfl⟩, _, q442, rfl⟩⟩
theorem vl_X7_23_4 : z_lkV RX7 23 M_X4_ran 4 1 := ⟨cl_X4_ran, q1262, _, rfl, Or.inl ⟨q1283, q1263, ⟨by decide +kernel, by decide +kernel⟩, by decide +kernel⟩⟩
theorem vl_X7_29_10 : z_lkV RX7 29 M_X7_turns 10 1 := ⟨cl_X7_turns, q1255, _, rfl, Or.inl ⟨q1307, q1268, ⟨by decide +kernel, by decide +kernel⟩, by decide +kernel⟩⟩
theorem vl_X7_29_11 : z_lkV RX7 29 M_X11_turns 11 1 := ⟨cl_X11_turns, q1259, _, rfl, Or.inr (Or.inr ⟨⟨"SomebodysLift$Lift", "turns", "(I)I"⟩, _, q1307, q1257, Or.inl q1267, ⟨by decide +kernel, by decide +kernel⟩, q1258, by decide +kernel⟩)⟩
theorem vl_X7_29_12 : z_lkV RX7 29 M_X9_turns 12 1 := ⟨cl_X9_turns, q1277, _, rfl, Or.inr (Or.inr ⟨⟨"SomebodysLift$Lift", "turns", "(I)I"⟩, _, q1307, q1257, Or.inl q1267, ⟨by decide +kernel, by decide +kernel⟩, q1276, by decide +kernel⟩)⟩
theorem vl_X7_29_13 : z_lkV RX7 29 M_X13_turns 13 1 := ⟨cl_X13_turns, q1271, _, rfl, Or.inr (Or.inr ⟨⟨"SomebodysLift$Lift", "turns", "(I)I"⟩, _, q1307, q1257, Or.inl q1267, ⟨by decide +kernel, by decide +kernel⟩, q1270, by decide +kernel⟩)⟩
theorem vl_X7_29_7 : z_lkV RX7 29 M_X7_turns 7 1 := ⟨cl_X7_turns, q1255, _, rfl, Or.inl ⟨q1307, q1256, ⟨by decide +kernel, by decide +kernel⟩, by decide +kernel⟩⟩
theorem vl_X7_29_8 : z_lkV RX7 29 M_X7_turns 8 1 := ⟨cl_X7_turns, q1255, _, rfl, Or.inl ⟨q1307, q1269, ⟨by decide +kernel, by decide +kernel⟩, by decide +kernel⟩⟩
theorem vl_X7_29_9 : z_lkV RX7 29 M_X9_turns 9 1 := ⟨cl_X9_turns, q1277, _, rfl, Or.inr (Or.inr ⟨⟨"SomebodysLift$Lift", "turns", "(I)I"⟩, _, q1307, q1257, Or.inl q1267, ⟨by decide +kernel, by decide +kernel⟩, q1281, by decide +kernel⟩)⟩
theorem vl_X7_33_10 : z_lkV RX7 33 M_X7_climbs 10 1 := ⟨cl_X7_climbs, q1285, _, rfl, Or.inl ⟨q1332, q1296, ⟨by decide +kernel, by decide +kernel⟩, by decide +kernel⟩⟩
theorem vl_X7_33_11 : z_lkV RX7 33 M_X11_climbs 11 1 := ⟨cl_X11_climbs, q1289, _, rfl, Or.inr (Or.inr ⟨⟨"SomebodysLift$Lift", "climbs", "(I)I"⟩, _, q1332, q1287, Or.inl q1303, ⟨by decide +kernel, by decide +kernel⟩, q1288, by decide +kernel⟩)⟩
theorem vl_X7_33_12 : z_lkV RX7 33 M_X7_climbs 12 1 := ⟨cl_X7_climbs, q1285, _, rfl, Or.inl ⟨q1332, q1304, ⟨by decide +kernel, by decide +kernel⟩, by decide +kernel⟩⟩
theorem vl_X7_33_13 : z_lkV RX7 33 M_X13_climbs 13 1 := ⟨cl_X13_climbs, q1299, _, rfl, Or.inr (Or.inr ⟨⟨"SomebodysLift$Lift", "climbs", "(I)I"⟩, _, q1332, q1287, Or.inl q1303, ⟨by decide +kernel, by decide +kernel⟩, q1298, by decide +kernel⟩)⟩
theorem vl_X7_33_7 : z_lkV RX7 33 M_X7_climbs 7 1 := ⟨cl_X7_climbs, q1285, _, rfl, Or.inl ⟨q1332, q1286, ⟨by decide +kernel, by decide +kernel⟩, by decide +kernel⟩⟩
theorem vl_X7_33_8 : z_lkV RX7 33 M_X8_climbs 8 1 := ⟨cl_X8_climbs, q1292, _, rfl, Or.inr (Or.inr ⟨⟨"SomebodysLift$Lift", "climbs", "(I)I"⟩, _, q1332, q1287, Or.inl q1303, ⟨by decide +kernel, by decide +kernel⟩, q1297, by decide +kernel⟩)⟩
theorem vl_X7_33_9 : z_lkV RX7 33 M_X7_climbs 9 1 := ⟨cl_X7_climbs, q1285, _, rfl, Or.inl ⟨q1332, q1305, ⟨by decide +kernel, by decide +kernel⟩, by decide +kernel⟩⟩
theorem il_X8_3 : z_lkI RX8 3 M_X7_init 4 := ⟨cl_X7_init, q411, rfl, rfl, rfl, ⟨by decide +kernel, by decide +kernel⟩, by decide +kernel, Or.inl q410⟩
theorem ul_X8_9 : z_lkU RX8 9 M_X7_climb 3 := ⟨cl_X7_climb, q605, by decide +kernel, by decide +kernel, q614, q607, q452⟩
theorem fl_X8_13_10 : z_Fl RX8 13 10 2 := ⟨_, _, rfl, by decide, Or.inl q437, Or.inr q438⟩
theorem fl_X8_13_11 : z_Fl RX8 13 11 2 := ⟨_, _, rfl, by decide, Or.inl q437, Or.inr q438⟩
theorem fl_X8_13_12 : z_Fl RX8 13 12 2 := ⟨_, _, rfl, by decide, Or.inl q437, Or.inr q438⟩
theorem fl_X8_13_13 : z_Fl RX8 13 13 2 := ⟨_, _, rfl, by decide, Or.inl q437, Or.inr q438⟩
theorem fl_X8_13_7 : z_Fl RX8 13 7 2 := ⟨_, _, rfl, by decide, Or.inl q437, Or.inr q438⟩
theorem fl_X8_13_8 : z_Fl RX8 13 8 2 := ⟨_, _, rfl, by decide, Or.inl q437, Or.inr q438⟩
theorem fl_X8_13_9 : z_Fl RX8 13 9 2 := ⟨_, _, rfl, by decide, Or.inl q437, Or.inr q438⟩
theorem fl_X8_19_10 : z_Fl RX8 19 10 0 := ⟨_, _, rfl, by decide, Or.inl q419, Or.inr q420⟩
theorem fl_X8_19_11 : z_Fl RX8 19 11 0 := ⟨_, _, rfl, by decide, Or.inl q419, Or.inr q420⟩
theorem fl_X8_19_12 : z_Fl RX8 19 12 0 := ⟨_, _, rfl, by decide, Or.inl q419, Or.inr q420⟩
theorem fl_X8_19_13 : z_Fl RX8 19 13 0 := ⟨_, _, rfl, by decide, Or.inl q419, Or.inr q420⟩
theorem fl_X8_19_7 : z_Fl RX8 19 7 0 := ⟨_, _, rfl, by decide, Or.inl q419, Or.inr q420⟩
theorem fl_X8_19_8 : z_Fl RX8 19 8 0 := ⟨_, _, rfl, by decide, Or.inl q419, Or.inr q420⟩
theorem fl_X8_19_9 : z_Fl RX8 19 9 0 := ⟨_, _, rfl, by decide, Or.inl q419, Or.inr q420⟩
theorem vl_X8_23_4 : z_lkV RX8 23 M_X4_ran 4 1 := ⟨cl_X4_ran, q1262, _, rfl, Or.inl ⟨q1294, q1263, ⟨by decide +kernel, by decide +kernel⟩, by decide +kernel⟩⟩
theorem ul_X8_29 : z_lkU RX8 29 M_X7_climbs 1 := ⟨cl_X7_climbs, q1285, by decide +kernel, by decide +kernel, q1295, q1287, q452⟩
theorem il_X9_3 : z_lkI RX9 3 M_X7_init 4 := ⟨cl_X7_init, q411, rfl, rfl, rfl, ⟨by decide +kernel, by decide +kernel⟩, by decide +kernel, Or.inl q458⟩
theorem ul_X9_9 : z_lkU RX9 9 M_X7_climb 3 := ⟨cl_X7_climb, q605, by decide +kernel, by decide +kernel, q630, q607, q463⟩
theorem fl_X9_13_10 : z_Fl RX9 13 10 0 := ⟨_, _, rfl, by decide, Or.inl q417, Or.inr q418⟩
theorem fl_X9_13_11 : z_Fl RX9 13 11 0 := ⟨_, _, rfl, by decide, Or.inl q417, Or.inr q418⟩
theorem fl_X9_13_12 : z_Fl RX9 13 12 0 := ⟨_, _, rfl, by decide, Or.inl q417, Or.inr q418⟩
theorem fl_X9_13_13 : z_Fl RX9 13 13 0 := ⟨_, _, rfl, by decide, Or.inl q417, Or.inr q418⟩
theorem fl_X9_13_7 : z_Fl RX9 13 7 0 := ⟨_, _, rfl, by decide, Or.inl q417, Or.inr q418⟩
theorem fl_X9_13_8 : z_Fl RX9 13 8 0 := ⟨_, _, rfl, by decide, Or.inl q417, Or.inr q418⟩
theorem fl_X9_13_9 : z_Fl RX9 13 9 0 := ⟨_, _, rfl, by decide, Or.inl q417, Or.inr q418⟩
theorem vl_X9_19_4 : z_lkV RX9 19 M_X4_ran 4 1 := ⟨cl_X4_ran, q1262, _, rfl, Or.inl ⟨q1279, q1263, ⟨by decide +kernel, by decide +kernel⟩, by decide +kernel⟩⟩
theorem ul_X9_25 : z_lkU RX9 25 M_X7_turns 1 := ⟨cl_X7_turns, q1255, by decide +kernel, by decide +kernel, q1280, q1257, q463⟩
