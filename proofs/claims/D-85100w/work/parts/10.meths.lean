/-! METHODS: printed by gen/tables.py -/
set_option maxRecDepth 100000
def M_X1_init : MT := (31, 9, 1, cX1_init, [])
def M_J29_init : MT := (29, 9, 1, cJ29_init, [])
def M_X2_init : MT := (32, 9, 1, cX2_init, [])
def M_X3_init : MT := (33, 9, 1, cX3_init, [])
def M_X4_init : MT := (34, 9, 4, cX4_init, [])
def M_J0_init : MT := (0, 9, 1, cJ0_init, [])
def M_X5_init : MT := (35, 9, 1, cX5_init, [])
def M_J2_init : MT := (2, 9, 5, cJ2_init, [])
def M_J1_init : MT := (1, 9, 5, cJ1_init, [])
def M_J0_init_2 : MT := (0, 9, 5, cJ0_init_2, [])
def M_X4_variable : MT := (34, 8, 1, cX4_variable, [])
def M_X8_init : MT := (38, 9, 1, cX8_init, [])
def M_X7_init : MT := (37, 9, 1, cX7_init, [])
def M_X6_init : MT := (36, 9, 1, cX6_init, [])
def M_X9_init : MT := (39, 9, 1, cX9_init, [])
def M_X10_init : MT := (40, 9, 1, cX10_init, [])
def M_X11_init : MT := (41, 9, 1, cX11_init, [])
def M_X12_init : MT := (42, 9, 1, cX12_init, [])
def M_X3_clear : MT := (33, 10, 1, cX3_clear, [])
def M_X3_zero : MT := (33, 10, 1, cX3_zero, [])
def M_X1_feed : MT := (31, 0, 8, cX1_feed, [])
def M_X1_tell : MT := (31, 0, 5, cX1_tell, [])
def M_X3_end : MT := (33, 1, 1, cX3_end, [])
def M_X3_load : MT := (33, 10, 5, cX3_load, [])
def M_X8_set : MT := (38, 10, 5, cX8_set, [])
def M_X9_set : MT := (39, 10, 3, cX9_set, [])
def M_X10_set : MT := (40, 10, 5, cX10_set, [])
def M_X10_begin : MT := (40, 10, 1, cX10_begin, [])
def M_X11_set : MT := (41, 10, 3, cX11_set, [])
def M_X12_set : MT := (42, 10, 5, cX12_set, [])
def M_X12_begin : MT := (42, 10, 1, cX12_begin, [])
def M_X2_begin : MT := (32, 10, 2, cX2_begin, [])
def M_X2_next : MT := (32, 10, 2, cX2_next, [])
def M_X2_byteAt : MT := (32, 0, 2, cX2_byteAt, [])
def M_X2_isLetter : MT := (32, 1, 1, cX2_isLetter, [])
def M_X2_word : MT := (32, 10, 2, cX2_word, [])
def M_X2_isDigit : MT := (32, 1, 1, cX2_isDigit, [])
def M_X2_are : MT := (32, 1, 6, cX2_are, [])
def M_J3_length : MT := (3, 0, 1, cJ3_length, [])
def M_J3_coder : MT := (3, 2, 1, cJ3_coder, [])
def M_J3_charAt : MT := (3, 3, 2, cJ3_charAt, [])
def M_J3_isLatin1 : MT := (3, 1, 1, cJ3_isLatin1, [])
def M_J4_charAt : MT := (4, 3, 2, cJ4_charAt, [])
def M_J3_checkIndex : MT := (3, 10, 2, cJ3_checkIndex, [])
def M_J5_checkIndex : MT := (5, 0, 3, cJ5_checkIndex, [])
def M_J6_charAt : MT := (6, 3, 2, cJ6_charAt, [])
def M_J6_checkIndex : MT := (6, 10, 2, cJ6_checkIndex, [])
def M_J6_length : MT := (6, 0, 1, cJ6_length, [])
def M_J6_getChar : MT := (6, 3, 2, cJ6_getChar, [])
def M_X2_numeral : MT := (32, 10, 6, cX2_numeral, [])
def M_X2_quoted : MT := (32, 10, 3, cX2_quoted, [])
def M_X2_sign : MT := (32, 10, 6, cX2_sign, [])
def M_X2_hasEnded : MT := (32, 1, 1, cX2_hasEnded, [])
def M_X2_place : MT := (32, 0, 1, cX2_place, [])
def M_X2_statement : MT := (32, 10, 2, cX2_statement, [])
def M_X2_name : MT := (32, 0, 2, cX2_name, [])
def M_X2_need : MT := (32, 10, 2, cX2_need, [])
def M_X2_pass : MT := (32, 10, 1, cX2_pass, [])
def M_X2_must : MT := (32, 10, 2, cX2_must, [])
def M_X2_takes : MT := (32, 1, 3, cX2_takes, [])
def M_X2_isSign : MT := (32, 1, 2, cX2_isSign, [])
def M_X2_put : MT := (32, 10, 3, cX2_put, [])
def M_X2_value : MT := (32, 10, 1, cX2_value, [])
def M_X2_range : MT := (32, 10, 1, cX2_range, [])
def M_X2_bound : MT := (32, 10, 2, cX2_bound, [])
def M_X14_plain : MT := (44, 7, 2, cX14_plain, [])
def M_X2_numeralAt : MT := (32, 0, 3, cX2_numeralAt, [])
def M_X2_set : MT := (32, 0, 2, cX2_set, [])
def M_X2_cons : MT := (32, 0, 2, cX2_cons, [])
def M_X2_con : MT := (32, 10, 2, cX2_con, [])
def M_X2_enter : MT := (32, 10, 1, cX2_enter, [])
def M_X2_product : MT := (32, 10, 2, cX2_product, [])
def M_X2_single : MT := (32, 10, 3, cX2_single, [])
def M_X2_isWord : MT := (32, 1, 2, cX2_isWord, [])
def M_X2_worded : MT := (32, 10, 3, cX2_worded, [])
def M_X2_sortOf : MT := (32, 0, 1, cX2_sortOf, [])
def M_X2_row : MT := (32, 10, 3, cX2_row, [])
def M_X2_place2 : MT := (32, 10, 2, cX2_place2, [])
def M_X2_takesWord : MT := (32, 1, 3, cX2_takesWord, [])
def M_X2_one : MT := (32, 10, 4, cX2_one, [])
def M_X2_copy : MT := (32, 10, 3, cX2_copy, [])
def M_X2_ex : MT := (32, 10, 1, cX2_ex, [])
def M_X2_joined : MT := (32, 10, 1, cX2_joined, [])
def M_X2_both : MT := (32, 10, 1, cX2_both, [])
def M_X2_denied : MT := (32, 10, 1, cX2_denied, [])
def M_X2_relation : MT := (32, 10, 3, cX2_relation, [])
def M_X2_sum : MT := (32, 10, 2, cX2_sum, [])
def M_X2_times : MT := (32, 10, 2, cX2_times, [])
def M_X2_minus : MT := (32, 10, 1, cX2_minus, [])
def M_X2_atom : MT := (32, 10, 1, cX2_atom, [])
def M_X2_call : MT := (32, 10, 3, cX2_call, [])
def M_X2_among : MT := (32, 10, 1, cX2_among, [])
def M_X4_run : MT := (34, 10, 4, cX4_run, [])
def M_X4_reckon : MT := (34, 10, 5, cX4_reckon, [])
def M_X4_push : MT := (34, 10, 2, cX4_push, [])
def M_X4_number : MT := (34, 0, 3, cX4_number, [])
def M_X4_find : MT := (34, 0, 4, cX4_find, [])
def M_X2_length : MT := (32, 0, 3, cX2_length, [])
def M_X5_of : MT := (35, 8, 2, cX5_of, [])
def M_J7_init : MT := (7, 9, 2, cJ7_init, [])
def M_J2_init_2 : MT := (2, 9, 2, cJ2_init_2, [])
def M_J1_init_2 : MT := (1, 9, 2, cJ1_init_2, [])
def M_J0_init_3 : MT := (0, 9, 2, cJ0_init_3, [])
def M_X4_simple : MT := (34, 0, 5, cX4_simple, [])
def M_X4_set : MT := (34, 8, 4, cX4_set, [])
def M_X4_letters : MT := (34, 8, 5, cX4_letters, [])
def M_X4_plain : MT := (34, 8, 3, cX4_plain, [])
def M_J9_init : MT := (9, 9, 2, cJ9_init, [])
def M_J8_init : MT := (8, 9, 2, cJ8_init, [])
def M_J10_init : MT := (10, 9, 1, cJ10_init, [])
def M_J2_init_3 : MT := (2, 9, 1, cJ2_init_3, [])
def M_J1_init_3 : MT := (1, 9, 1, cJ1_init_3, [])
def M_X4_express : MT := (34, 0, 8, cX4_express, [])
def M_X4_constant : MT := (34, 10, 3, cX4_constant, [])
def M_X4_counts : MT := (34, 10, 1, cX4_counts, [])
def M_X16_init : MT := (46, 9, 6, cX16_init, [])
def M_X15_init : MT := (45, 9, 1, cX15_init, [])
def M_X4_part : MT := (34, 10, 2, cX4_part, [])
def M_X4_truth : MT := (34, 10, 2, cX4_truth, [])
def M_X4_sorts : MT := (34, 10, 2, cX4_sorts, [])
def M_X4_named : MT := (34, 10, 3, cX4_named, [])
def M_X4_leaf : MT := (34, 10, 2, cX4_leaf, [])
def M_X17_init : MT := (47, 9, 2, cX17_init, [])
def M_X4_taken : MT := (34, 8, 1, cX4_taken, [])
def M_X31_sort : MT := (61, 0, 1, cX31_sort, [])
def M_X37_sort : MT := (67, 0, 1, cX37_sort, [])
def M_X16_sort : MT := (46, 0, 1, cX16_sort, [])
def M_X24_sort : MT := (54, 0, 1, cX24_sort, [])
def M_X17_sort : MT := (47, 0, 1, cX17_sort, [])
def M_X12_sort : MT := (42, 0, 1, cX12_sort, [])
def M_X8_sort : MT := (38, 0, 1, cX8_sort, [])
def M_X9_sort : MT := (39, 0, 1, cX9_sort, [])
def M_X11_sort : MT := (41, 0, 1, cX11_sort, [])
def M_X10_sort : MT := (40, 0, 1, cX10_sort, [])
def M_X18_sort : MT := (48, 0, 1, cX18_sort, [])
def M_X19_init : MT := (49, 9, 2, cX19_init, [])
def M_X18_init : MT := (48, 9, 2, cX18_init, [])
def M_X4_call : MT := (34, 10, 3, cX4_call, [])
def M_X20_init : MT := (50, 9, 2, cX20_init, [])
def M_X21_init : MT := (51, 9, 2, cX21_init, [])
def M_X22_init : MT := (52, 9, 2, cX22_init, [])
def M_X23_init : MT := (53, 9, 3, cX23_init, [])
def M_X4_two : MT := (34, 10, 6, cX4_two, [])
def M_X25_init : MT := (55, 9, 3, cX25_init, [])
def M_X24_init : MT := (54, 9, 3, cX24_init, [])
def M_X26_init : MT := (56, 9, 3, cX26_init, [])
def M_X28_init : MT := (58, 9, 3, cX28_init, [])
def M_X27_init : MT := (57, 9, 3, cX27_init, [])
def M_X29_init : MT := (59, 9, 3, cX29_init, [])
def M_X30_init : MT := (60, 9, 4, cX30_init, [])
def M_X33_init : MT := (63, 9, 4, cX33_init, [])
def M_X32_init : MT := (62, 9, 3, cX32_init, [])
def M_X31_init : MT := (61, 9, 1, cX31_init, [])
def M_X34_init : MT := (64, 9, 4, cX34_init, [])
def M_X35_init : MT := (65, 9, 4, cX35_init, [])
def M_X36_init : MT := (66, 9, 2, cX36_init, [])
def M_X4_choice : MT := (34, 10, 4, cX4_choice, [])
def M_X37_init : MT := (67, 9, 4, cX37_init, [])
def M_X4_ofRow : MT := (34, 10, 5, cX4_ofRow, [])
def M_X4_rowOf : MT := (34, 8, 3, cX4_rowOf, [])
def M_X4_different : MT := (34, 10, 6, cX4_different, [])
def M_X4_sum : MT := (34, 10, 4, cX4_sum, [])
def M_X4_added : MT := (34, 10, 2, cX4_added, [])
def M_X4_count : MT := (34, 10, 8, cX4_count, [])
def M_X4_among : MT := (34, 10, 5, cX4_among, [])
def M_X38_init : MT := (68, 9, 3, cX38_init, [])
def M_X4_state : MT := (34, 0, 7, cX4_state, [])
def M_X4_tell : MT := (34, 10, 7, cX4_tell, [])
def M_J12_init : MT := (12, 9, 2, cJ12_init, [])
def M_J11_init : MT := (11, 9, 2, cJ11_init, [])
def M_J6_newBytesFor : MT := (6, 8, 1, cJ6_newBytesFor, [])
def M_J6_newBytesLength : MT := (6, 0, 1, cJ6_newBytesLength, [])
def M_J13_init : MT := (13, 9, 1, cJ13_init, [])
def M_J12_append : MT := (12, 8, 2, cJ12_append, [])
def M_J11_append : MT := (11, 8, 2, cJ11_append, [])
def M_J11_ensureCapacityInternal : MT := (11, 10, 3, cJ11_ensureCapacityInternal, [])
def M_J11_newCapacity : MT := (11, 0, 6, cJ11_newCapacity, [])
def M_J14_newLength : MT := (14, 0, 4, cJ14_newLength, [])
def M_J15_max : MT := (15, 0, 2, cJ15_max, [])
def M_J14_hugeLength : MT := (14, 0, 3, cJ14_hugeLength, [])
def M_J16_copyOf : MT := (16, 8, 3, cJ16_copyOf, [])
def M_J15_min : MT := (15, 0, 2, cJ15_min, [])
def M_J11_isLatin1 : MT := (11, 1, 1, cJ11_isLatin1, [])
def M_J4_canEncode : MT := (4, 1, 1, cJ4_canEncode, [])
def M_J11_inflate : MT := (11, 10, 2, cJ11_inflate, [])
def M_J4_inflate : MT := (4, 10, 5, cJ4_inflate, [])
def M_J6_inflate : MT := (6, 10, 6, cJ6_inflate, [])
def M_J6_checkBoundsOffCount : MT := (6, 10, 3, cJ6_checkBoundsOffCount, [])
def M_J3_checkBoundsOffCount : MT := (3, 0, 3, cJ3_checkBoundsOffCount, [])
def M_J5_checkFromIndexSize : MT := (5, 0, 4, cJ5_checkFromIndexSize, [])
def M_J6_putChar : MT := (6, 10, 3, cJ6_putChar, [])
def M_J6_putCharSB : MT := (6, 10, 3, cJ6_putCharSB, [])
def M_J12_toString : MT := (12, 8, 1, cJ12_toString, [])
def M_J3_init : MT := (3, 9, 2, cJ3_init, [])
def M_J3_init_2 : MT := (3, 9, 5, cJ3_init_2, [])
def M_J11_getValue : MT := (11, 8, 1, cJ11_getValue, [])
def M_J12_length : MT := (12, 0, 1, cJ12_length, [])
def M_J11_length : MT := (11, 0, 1, cJ11_length, [])
def M_J16_copyOfRange : MT := (16, 8, 3, cJ16_copyOfRange, [])
def M_J16_copyOfRangeByte : MT := (16, 8, 5, cJ16_copyOfRangeByte, [])
def M_J16_checkLength : MT := (16, 10, 2, cJ16_checkLength, [])
def M_J6_compress : MT := (6, 8, 6, cJ6_compress, [])
def M_J6_compress_2 : MT := (6, 0, 7, cJ6_compress_2, [])
def M_J6_coderFromArrayLen : MT := (6, 2, 2, cJ6_coderFromArrayLen, [])
def M_X4_another : MT := (34, 8, 5, cX4_another, [])
def M_X4_variableOf : MT := (34, 8, 3, cX4_variableOf, [])
def M_J17_init : MT := (17, 9, 2, cJ17_init, [])
def M_X9_under : MT := (39, 6, 3, cX9_under, [])
def M_J15_nextDown : MT := (15, 6, 1, cJ15_nextDown, [])
def M_J18_isNaN : MT := (18, 1, 1, cJ18_isNaN, [])
def M_X9_plain : MT := (39, 6, 1, cX9_plain, [])
def M_X9_over : MT := (39, 6, 3, cX9_over, [])
def M_J15_nextUp : MT := (15, 6, 2, cJ15_nextUp, [])
def M_X10_range : MT := (40, 10, 6, cX10_range, [])
def M_J15_ceil : MT := (15, 7, 2, cJ15_ceil, [])
def M_J19_ceil : MT := (19, 7, 2, cJ19_ceil, [])
def M_J19_floorOrCeil : MT := (19, 7, 15, cJ19_floorOrCeil, [])
def M_J15_getExponent : MT := (15, 0, 2, cJ15_getExponent, [])
def M_J15_floor : MT := (15, 7, 2, cJ15_floor, [])
def M_J19_floor : MT := (19, 7, 2, cJ19_floor, [])
def M_X10_add : MT := (40, 10, 4, cX10_add, [])
def M_X4_row : MT := (34, 10, 5, cX4_row, [])
def M_J13_init_2 : MT := (13, 9, 2, cJ13_init_2, [])
def M_X39_init : MT := (69, 9, 3, cX39_init, [])
def M_X4_fill : MT := (34, 10, 4, cX4_fill, [])
def M_J21_init : MT := (21, 9, 2, cJ21_init, [])
def M_X4_fits : MT := (34, 1, 2, cX4_fits, [])
def M_X4_rule : MT := (34, 10, 2, cX4_rule, [])
def M_X4_aim : MT := (34, 10, 2, cX4_aim, [])
def M_X1_fault : MT := (31, 0, 2, cX1_fault, [])
def M_X1_forget : MT := (31, 0, 2, cX1_forget, [])
def M_X4_clear : MT := (34, 10, 1, cX4_clear, [])
def M_X1_narrow : MT := (31, 0, 1, cX1_narrow, [])
def M_X3_rounds : MT := (33, 0, 4, cX3_rounds, [])
def M_X3_note : MT := (33, 10, 3, cX3_note, [])
def M_X12_things : MT := (42, 0, 1, cX12_things, [])
def M_X8_things : MT := (38, 0, 1, cX8_things, [])
def M_X9_things : MT := (39, 0, 1, cX9_things, [])
def M_X11_things : MT := (41, 0, 1, cX11_things, [])
def M_X10_things : MT := (40, 0, 1, cX10_things, [])
def M_X3_isBounded : MT := (33, 1, 1, cX3_isBounded, [])
def M_X40_hasBounds : MT := (70, 1, 1, cX40_hasBounds, [])
def M_X8_hasBounds : MT := (38, 1, 1, cX8_hasBounds, [])
def M_X9_hasBounds : MT := (39, 1, 1, cX9_hasBounds, [])
def M_X8_high : MT := (38, 7, 1, cX8_high, [])
def M_X9_high : MT := (39, 7, 1, cX9_high, [])
def M_X10_high : MT := (40, 7, 1, cX10_high, [])
def M_X32_forwards : MT := (62, 10, 2, cX32_forwards, [])
def M_X38_forwards : MT := (68, 10, 2, cX38_forwards, [])
def M_X37_forwards : MT := (67, 10, 2, cX37_forwards, [])
def M_X16_forwards : MT := (46, 10, 2, cX16_forwards, [])
def M_X15_be : MT := (45, 10, 5, cX15_be, [])
def M_X15_truth : MT := (45, 10, 3, cX15_truth, [])
def M_X24_forwards : MT := (54, 10, 2, cX24_forwards, [])
def M_X17_forwards : MT := (47, 10, 3, cX17_forwards, [])
def M_X18_forwards : MT := (48, 10, 2, cX18_forwards, [])
def M_X36_forwards : MT := (66, 10, 2, cX36_forwards, [])
def M_X20_reckon : MT := (50, 10, 1, cX20_reckon, [])
def M_J15_abs : MT := (15, 7, 2, cJ15_abs, [])
def M_J15_max_2 : MT := (15, 7, 4, cJ15_max_2, [])
def M_X19_reckon : MT := (49, 10, 1, cX19_reckon, [])
def M_X22_reckon : MT := (52, 10, 1, cX22_reckon, [])
def M_X22_lower : MT := (52, 7, 2, cX22_lower, [])
def M_J15_sqrt : MT := (15, 7, 2, cJ15_sqrt, [])
def M_J19_sqrt : MT := (19, 7, 2, cJ19_sqrt, [])
def M_J24_compute : MT := (24, 7, 16, cJ24_compute, [])
def M_J25___HI : MT := (25, 0, 4, cJ25___HI, [])
def M_J25___LO : MT := (25, 0, 4, cJ25___LO, [])
def M_J26_compareUnsigned : MT := (26, 0, 2, cJ26_compareUnsigned, [])
def M_J26_compare : MT := (26, 0, 2, cJ26_compare, [])
def M_J25___HI_LO : MT := (25, 7, 2, cJ25___HI_LO, [])
def M_X14_low : MT := (44, 7, 2, cX14_low, [])
def M_J15_nextDown_2 : MT := (15, 7, 2, cJ15_nextDown_2, [])
def M_J20_isNaN : MT := (20, 1, 2, cJ20_isNaN, [])
def M_X14_high : MT := (44, 7, 2, cX14_high, [])
def M_J15_nextUp_2 : MT := (15, 7, 4, cJ15_nextUp_2, [])
def M_X21_reckon : MT := (51, 10, 1, cX21_reckon, [])
def M_X23_reckon : MT := (53, 10, 1, cX23_reckon, [])
def M_X23_step : MT := (53, 7, 3, cX23_step, [])
def M_J15_rint : MT := (15, 7, 2, cJ15_rint, [])
def M_J19_rint : MT := (19, 7, 6, cJ19_rint, [])
def M_J15_copySign : MT := (15, 7, 4, cJ15_copySign, [])
def M_J15_signum : MT := (15, 7, 2, cJ15_signum, [])
def M_X26_reckon : MT := (56, 10, 1, cX26_reckon, [])
def M_X30_reckon : MT := (60, 10, 1, cX30_reckon, [])
def M_J15_min_2 : MT := (15, 7, 4, cJ15_min_2, [])
def M_X28_reckon : MT := (58, 10, 1, cX28_reckon, [])
def M_X27_times : MT := (57, 10, 13, cX27_times, [])
def M_X14_product : MT := (44, 7, 4, cX14_product, [])
def M_X24_hull : MT := (54, 10, 9, cX24_hull, [])
def M_X27_keep : MT := (57, 10, 5, cX27_keep, [])
def M_X27_take : MT := (57, 10, 1, cX27_take, [])
def M_X29_reckon : MT := (59, 10, 1, cX29_reckon, [])
def M_X27_over : MT := (57, 10, 13, cX27_over, [])
def M_X14_quotient : MT := (44, 7, 4, cX14_quotient, [])
def M_X25_reckon : MT := (55, 10, 1, cX25_reckon, [])
def M_X15_as : MT := (45, 10, 2, cX15_as, [])
def M_X38_judge : MT := (68, 10, 4, cX38_judge, [])
def M_X38_judge_2 : MT := (68, 10, 4, cX38_judge_2, [])
def M_X38_bits : MT := (68, 0, 3, cX38_bits, [])
def M_X38_judge_3 : MT := (68, 10, 2, cX38_judge_3, [])
def M_X33_judge : MT := (63, 10, 3, cX33_judge, [])
def M_X15_hasMeet : MT := (45, 1, 2, cX15_hasMeet, [])
def M_X33_isOne : MT := (63, 1, 2, cX33_isOne, [])
def M_J26_bitCount : MT := (26, 0, 1, cJ26_bitCount, [])
def M_X35_judge : MT := (65, 10, 1, cX35_judge, [])
def M_X34_judge : MT := (64, 10, 3, cX34_judge, [])
def M_X15_meets : MT := (45, 10, 3, cX15_meets, [])
def M_X32_enter : MT := (62, 10, 2, cX32_enter, [])
def M_X33_hand : MT := (63, 10, 1, cX33_hand, [])
def M_X15_meets_2 : MT := (45, 10, 2, cX15_meets_2, [])
def M_X15_meet : MT := (45, 10, 5, cX15_meet, [])
def M_X15_meets_3 : MT := (45, 10, 2, cX15_meets_3, [])
def M_X33_loses : MT := (63, 10, 3, cX33_loses, [])
def M_X17_lose : MT := (47, 10, 3, cX17_lose, [])
def M_X10_lose : MT := (40, 10, 5, cX10_lose, [])
def M_X15_lose : MT := (45, 10, 3, cX15_lose, [])
def M_X35_hand : MT := (65, 10, 1, cX35_hand, [])
def M_X35_both : MT := (65, 10, 1, cX35_both, [])
def M_X35_either : MT := (65, 10, 1, cX35_either, [])
def M_X35_follows : MT := (65, 10, 1, cX35_follows, [])
def M_X34_hand : MT := (64, 10, 1, cX34_hand, [])
def M_X31_enter : MT := (61, 10, 2, cX31_enter, [])
def M_X15_enter : MT := (45, 10, 2, cX15_enter, [])
def M_X38_backwards : MT := (68, 10, 2, cX38_backwards, [])
def M_X38_hand : MT := (68, 10, 7, cX38_hand, [])
def M_X17_lose_2 : MT := (47, 10, 2, cX17_lose_2, [])
def M_X10_lose_2 : MT := (40, 10, 5, cX10_lose_2, [])
def M_X10_isIn : MT := (40, 1, 4, cX10_isIn, [])
def M_X15_lose_2 : MT := (45, 10, 2, cX15_lose_2, [])
def M_X38_hand_2 : MT := (68, 10, 2, cX38_hand_2, [])
def M_X37_enter : MT := (67, 10, 2, cX37_enter, [])
def M_X24_enter : MT := (54, 10, 2, cX24_enter, [])
def M_X26_hand : MT := (56, 10, 1, cX26_hand, [])
def M_X30_hand : MT := (60, 10, 1, cX30_hand, [])
def M_X28_hand : MT := (58, 10, 2, cX28_hand, [])
def M_X41_shares : MT := (71, 10, 4, cX41_shares, [])
def M_X28_share : MT := (58, 10, 4, cX28_share, [])
def M_X27_to : MT := (57, 10, 2, cX27_to, [])
def M_X25_share : MT := (55, 10, 4, cX25_share, [])
def M_X29_hand : MT := (59, 10, 1, cX29_hand, [])
def M_X25_hand : MT := (55, 10, 2, cX25_hand, [])
def M_X17_enter : MT := (47, 10, 2, cX17_enter, [])
def M_X37_backwards : MT := (67, 10, 2, cX37_backwards, [])
def M_X17_backwards : MT := (47, 10, 2, cX17_backwards, [])
def M_X8_keep : MT := (38, 10, 9, cX8_keep, [])
def M_X9_keep : MT := (39, 10, 7, cX9_keep, [])
def M_X10_keep : MT := (40, 10, 7, cX10_keep, [])
def M_X11_keep : MT := (41, 10, 5, cX11_keep, [])
def M_X12_keep : MT := (42, 10, 4, cX12_keep, [])
def M_X18_backwards : MT := (48, 10, 2, cX18_backwards, [])
def M_X20_hand : MT := (50, 10, 1, cX20_hand, [])
def M_X20_mirrored : MT := (50, 10, 5, cX20_mirrored, [])
def M_X19_hand : MT := (49, 10, 1, cX19_hand, [])
def M_X22_hand : MT := (52, 10, 3, cX22_hand, [])
def M_X21_hand : MT := (51, 10, 1, cX21_hand, [])
def M_X23_hand : MT := (53, 10, 5, cX23_hand, [])
def M_X36_backwards : MT := (66, 10, 2, cX36_backwards, [])
def M_X15_backwards : MT := (45, 10, 2, cX15_backwards, [])
def M_X3_isLess : MT := (33, 1, 10, cX3_isLess, [])
def M_X1_search : MT := (31, 1, 2, cX1_search, [])
def M_X3_search : MT := (33, 1, 2, cX3_search, [])
def M_X3_save : MT := (33, 10, 6, cX3_save, [])
def M_X6_without : MT := (36, 8, 0, cX6_without, [])
def M_J27_init : MT := (27, 9, 1, cJ27_init, [])
def M_J8_init_2 : MT := (8, 9, 1, cJ8_init_2, [])
def M_J20_doubleToLongBits : MT := (20, 5, 2, cJ20_doubleToLongBits, [])
def M_J18_floatToIntBits : MT := (18, 0, 1, cJ18_floatToIntBits, [])
def M_X1_steps : MT := (31, 0, 2, cX1_steps, [])
def M_X3_steps : MT := (33, 0, 4, cX3_steps, [])
def M_X3_aims : MT := (33, 10, 2, cX3_aims, [])
def M_X12_isFixed : MT := (42, 1, 3, cX12_isFixed, [])
def M_X8_isFixed : MT := (38, 1, 3, cX8_isFixed, [])
def M_X9_isFixed : MT := (39, 1, 3, cX9_isFixed, [])
def M_X11_isFixed : MT := (41, 1, 3, cX11_isFixed, [])
def M_X10_isFixed : MT := (40, 1, 3, cX10_isFixed, [])
def M_X3_box : MT := (33, 0, 3, cX3_box, [])
def M_X3_keeps : MT := (33, 10, 1, cX3_keeps, [])
def M_X3_split : MT := (33, 10, 9, cX3_split, [])
def M_X3_middle : MT := (33, 7, 4, cX3_middle, [])
def M_X10_only : MT := (40, 10, 2, cX10_only, [])
def M_J26_numberOfTrailingZeros : MT := (26, 0, 2, cJ26_numberOfTrailingZeros, [])
def M_X12_only : MT := (42, 10, 2, cX12_only, [])
def M_X3_over : MT := (33, 0, 2, cX3_over, [])
def M_X1_end : MT := (31, 1, 1, cX1_end, [])
def M_X1_look : MT := (31, 0, 2, cX1_look, [])
def M_X3_nodes : MT := (33, 0, 1, cX3_nodes, [])
def M_X1_count : MT := (31, 0, 2, cX1_count, [])
def M_X1_sort : MT := (31, 0, 2, cX1_sort, [])
def M_X1_variable : MT := (31, 8, 2, cX1_variable, [])
def M_J28_init : MT := (28, 9, 1, cJ28_init, [])
def M_X1_size : MT := (31, 0, 3, cX1_size, [])
def M_X1_toldOf : MT := (31, 0, 1, cX1_toldOf, [])
def M_X40_told : MT := (70, 0, 1, cX40_told, [])
def M_X1_thing : MT := (31, 5, 3, cX1_thing, [])
def M_X1_rowAt : MT := (31, 8, 2, cX1_rowAt, [])
def M_X1_rule : MT := (31, 0, 2, cX1_rule, [])
def M_X1_aim : MT := (31, 5, 3, cX1_aim, [])
def M_X1_best : MT := (31, 5, 3, cX1_best, [])
def M_X13_thrown : MT := (43, 0, 1, cX13_thrown, [])
def M_X13_init : MT := (43, 9, 1, cX13_init, [])
def M_X13_forgets : MT := (43, 10, 1, cX13_forgets, [])
def M_X13_feed : MT := (43, 0, 6, cX13_feed, [])
def M_X13_word : MT := (43, 10, 3, cX13_word, [])
def M_X13_forget : MT := (43, 0, 2, cX13_forget, [])
def M_X13_tell : MT := (43, 0, 6, cX13_tell, [])
def M_X13_ends : MT := (43, 1, 2, cX13_ends, [])
def M_X13_scan : MT := (43, 10, 4, cX13_scan, [])
def M_X13_at : MT := (43, 0, 2, cX13_at, [])
def M_X13_token : MT := (43, 0, 6, cX13_token, [])
def M_X13_isLetter : MT := (43, 1, 1, cX13_isLetter, [])
def M_X13_isDigit : MT := (43, 1, 1, cX13_isDigit, [])
def M_X13_isWord : MT := (43, 1, 5, cX13_isWord, [])
def M_J3_indexOf : MT := (3, 0, 2, cJ3_indexOf, [])
def M_J3_indexOf_2 : MT := (3, 0, 3, cJ3_indexOf_2, [])
def M_J4_indexOf : MT := (4, 0, 4, cJ4_indexOf, [])
def M_J4_canEncode_2 : MT := (4, 1, 1, cJ4_canEncode_2, [])
def M_J4_indexOfChar : MT := (4, 0, 6, cJ4_indexOfChar, [])
def M_J6_indexOf : MT := (6, 0, 4, cJ6_indexOf, [])
def M_J6_indexOfChar : MT := (6, 0, 4, cJ6_indexOfChar, [])
def M_J6_checkBoundsBeginEnd : MT := (6, 10, 3, cJ6_checkBoundsBeginEnd, [])
def M_J3_checkBoundsBeginEnd : MT := (3, 10, 3, cJ3_checkBoundsBeginEnd, [])
def M_J5_checkFromToIndex : MT := (5, 0, 4, cJ5_checkFromToIndex, [])
def M_J6_indexOfCharUnsafe : MT := (6, 0, 5, cJ6_indexOfCharUnsafe, [])
def M_J6_indexOfSupplementary : MT := (6, 0, 7, cJ6_indexOfSupplementary, [])
def M_J22_isValidCodePoint : MT := (22, 1, 2, cJ22_isValidCodePoint, [])
def M_J22_highSurrogate : MT := (22, 3, 1, cJ22_highSurrogate, [])
def M_J22_lowSurrogate : MT := (22, 3, 1, cJ22_lowSurrogate, [])
def M_X13_readStatement : MT := (43, 10, 1, cX13_readStatement, [])
def M_X13_takes : MT := (43, 1, 2, cX13_takes, [])
def M_X13_is : MT := (43, 1, 3, cX13_is, [])
def M_X13_take : MT := (43, 10, 1, cX13_take, [])
def M_X13_wrong : MT := (43, 10, 1, cX13_wrong, [])
def M_X13_mustBe : MT := (43, 10, 2, cX13_mustBe, [])
def M_X13_must : MT := (43, 10, 2, cX13_must, [])
def M_X13_readCon : MT := (43, 10, 1, cX13_readCon, [])
def M_X13_enters : MT := (43, 1, 1, cX13_enters, [])
def M_X13_readCon2 : MT := (43, 10, 1, cX13_readCon2, [])
def M_X13_readCon3 : MT := (43, 10, 1, cX13_readCon3, [])
def M_X13_isWholeNumeral : MT := (43, 1, 2, cX13_isWholeNumeral, [])
def M_X13_numeral : MT := (43, 7, 8, cX13_numeral, [])
def M_X13_sortWord : MT := (43, 0, 1, cX13_sortWord, [])
def M_X13_readValue : MT := (43, 10, 1, cX13_readValue, [])
def M_X13_readRange : MT := (43, 10, 1, cX13_readRange, [])
def M_X13_readBound : MT := (43, 10, 2, cX13_readBound, [])
def M_X13_readSet : MT := (43, 10, 1, cX13_readSet, [])
def M_X13_readPlace : MT := (43, 10, 1, cX13_readPlace, [])
def M_X13_readOne : MT := (43, 10, 1, cX13_readOne, [])
def M_X13_readEx : MT := (43, 10, 1, cX13_readEx, [])
def M_X13_readNot : MT := (43, 10, 1, cX13_readNot, [])
def M_X13_readRel : MT := (43, 10, 1, cX13_readRel, [])
def M_X13_readSum : MT := (43, 10, 1, cX13_readSum, [])
def M_X13_readMinus : MT := (43, 10, 1, cX13_readMinus, [])
def M_X13_readAtom : MT := (43, 10, 1, cX13_readAtom, [])
def M_X13_readArguments : MT := (43, 10, 3, cX13_readArguments, [])
def M_X13_isCompared : MT := (43, 1, 1, cX13_isCompared, [])
def M_X13_doStatement : MT := (43, 0, 13, cX13_doStatement, [])
def M_X13_domain : MT := (43, 10, 2, cX13_domain, [])
def M_X13_named : MT := (43, 0, 4, cX13_named, [])
def M_X13_find : MT := (43, 0, 5, cX13_find, [])
def M_X13_key : MT := (43, 5, 5, cX13_key, [])
def M_X13_fails : MT := (43, 10, 2, cX13_fails, [])
def M_X13_value : MT := (43, 10, 1, cX13_value, [])
def M_X13_range : MT := (43, 10, 1, cX13_range, [])
def M_X13_bound : MT := (43, 7, 5, cX13_bound, [])
def M_X13_plain : MT := (43, 7, 2, cX13_plain, [])
def M_X13_set : MT := (43, 10, 1, cX13_set, [])
def M_X13_con : MT := (43, 0, 4, cX13_con, [])
def M_X13_con2 : MT := (43, 0, 4, cX13_con2, [])
def M_X13_con3 : MT := (43, 0, 4, cX13_con3, [])
def M_X13_letters : MT := (43, 5, 5, cX13_letters, [])
def M_X13_judge : MT := (43, 10, 4, cX13_judge, [])
def M_X13_ceil : MT := (43, 7, 2, cX13_ceil, [])
def M_X13_floor : MT := (43, 7, 4, cX13_floor, [])
def M_X13_gives : MT := (43, 10, 2, cX13_gives, [])
def M_X13_smallBelow : MT := (43, 7, 3, cX13_smallBelow, [])
def M_X13_smallUp : MT := (43, 6, 3, cX13_smallUp, [])
def M_X13_smallAbove : MT := (43, 7, 2, cX13_smallAbove, [])
def M_X13_wholes : MT := (43, 10, 5, cX13_wholes, [])
def M_X13_inserts : MT := (43, 0, 6, cX13_inserts, [])
def M_X13_newVariable : MT := (43, 0, 2, cX13_newVariable, [])
def M_X13_name : MT := (43, 10, 4, cX13_name, [])
def M_X13_let : MT := (43, 10, 3, cX13_let, [])
def M_X13_row : MT := (43, 10, 5, cX13_row, [])
def M_X13_fill : MT := (43, 10, 4, cX13_fill, [])
def M_X13_put : MT := (43, 10, 4, cX13_put, [])
def M_X13_one : MT := (43, 0, 4, cX13_one, [])
def M_X13_copy : MT := (43, 10, 7, cX13_copy, [])
def M_X13_weigh : MT := (43, 10, 3, cX13_weigh, [])
def M_X13_tellEx : MT := (43, 10, 3, cX13_tellEx, [])
def M_X13_ex : MT := (43, 0, 2, cX13_ex, [])
def M_X13_andPart : MT := (43, 0, 2, cX13_andPart, [])
def M_X13_notPart : MT := (43, 0, 2, cX13_notPart, [])
def M_X13_relation : MT := (43, 0, 4, cX13_relation, [])
def M_X13_sum : MT := (43, 0, 3, cX13_sum, [])
def M_X13_product : MT := (43, 0, 3, cX13_product, [])
def M_X13_minus : MT := (43, 0, 2, cX13_minus, [])
def M_X13_atom : MT := (43, 0, 4, cX13_atom, [])
def M_X13_numeralPart : MT := (43, 0, 4, cX13_numeralPart, [])
def M_X13_make : MT := (43, 0, 6, cX13_make, [])
def M_J23_bitCount : MT := (23, 0, 2, cJ23_bitCount, [])
def M_X13_fixedPart : MT := (43, 0, 3, cX13_fixedPart, [])
def M_X13_variablePart : MT := (43, 0, 2, cX13_variablePart, [])
def M_X13_worded : MT := (43, 0, 5, cX13_worded, [])
def M_X13_rowed : MT := (43, 0, 5, cX13_rowed, [])
def M_X13_differs : MT := (43, 0, 9, cX13_differs, [])
def M_X13_sums : MT := (43, 0, 11, cX13_sums, [])
def M_X13_pair : MT := (43, 0, 6, cX13_pair, [])
def M_X13_compared : MT := (43, 0, 1, cX13_compared, [])
def M_X13_within : MT := (43, 0, 5, cX13_within, [])
def M_X13_pools : MT := (43, 10, 4, cX13_pools, [])
def M_X13_orders : MT := (43, 10, 4, cX13_orders, [])
def M_X13_later : MT := (43, 10, 2, cX13_later, [])
def M_X13_isPair : MT := (43, 1, 1, cX13_isPair, [])
def M_X13_fault : MT := (43, 0, 2, cX13_fault, [])
def M_X13_narrow : MT := (43, 0, 3, cX13_narrow, [])
def M_X13_counts : MT := (43, 10, 1, cX13_counts, [])
def M_X13_goesRound : MT := (43, 0, 4, cX13_goesRound, [])
def M_X13_narrows : MT := (43, 0, 6, cX13_narrows, [])
def M_X13_forwards : MT := (43, 0, 6, cX13_forwards, [])
def M_X13_ofVariable : MT := (43, 0, 4, cX13_ofVariable, [])
def M_J23_numberOfTrailingZeros : MT := (23, 0, 3, cJ23_numberOfTrailingZeros, [])
def M_J23_numberOfLeadingZeros : MT := (23, 0, 3, cJ23_numberOfLeadingZeros, [])
def M_J26_numberOfLeadingZeros : MT := (26, 0, 2, cJ26_numberOfLeadingZeros, [])
def M_X13_ofNumber : MT := (43, 0, 6, cX13_ofNumber, [])
def M_X13_gives_2 : MT := (43, 10, 5, cX13_gives_2, [])
def M_X13_less : MT := (43, 7, 4, cX13_less, [])
def M_X13_more : MT := (43, 7, 4, cX13_more, [])
def M_X13_reckon : MT := (43, 10, 10, cX13_reckon, [])
def M_X13_plus : MT := (43, 10, 9, cX13_plus, [])
def M_X13_low : MT := (43, 7, 2, cX13_low, [])
def M_X13_down : MT := (43, 7, 2, cX13_down, [])
def M_X13_up : MT := (43, 7, 4, cX13_up, [])
def M_X13_high : MT := (43, 7, 2, cX13_high, [])
def M_X13_minus_2 : MT := (43, 10, 9, cX13_minus_2, [])
def M_X13_times : MT := (43, 10, 9, cX13_times, [])
def M_X13_product_2 : MT := (43, 7, 4, cX13_product_2, [])
def M_X13_four : MT := (43, 10, 9, cX13_four, [])
def M_X13_by : MT := (43, 10, 9, cX13_by, [])
def M_X13_quotient : MT := (43, 7, 4, cX13_quotient, [])
def M_X13_isInfinite : MT := (43, 1, 2, cX13_isInfinite, [])
def M_X13_absolute : MT := (43, 10, 5, cX13_absolute, [])
def M_X13_square : MT := (43, 10, 9, cX13_square, [])
def M_X13_root : MT := (43, 10, 5, cX13_root, [])
def M_X13_near : MT := (43, 7, 7, cX13_near, [])
def M_X13_signOf : MT := (43, 7, 2, cX13_signOf, [])
def M_X13_ofTruth : MT := (43, 0, 7, cX13_ofTruth, [])
def M_X13_turned : MT := (43, 5, 2, cX13_turned, [])
def M_X13_alike : MT := (43, 5, 4, cX13_alike, [])
def M_X13_truth : MT := (43, 5, 2, cX13_truth, [])
def M_X13_isOne : MT := (43, 1, 2, cX13_isOne, [])
def M_X13_inSet : MT := (43, 5, 5, cX13_inSet, [])
def M_X13_goes : MT := (43, 1, 4, cX13_goes, [])
def M_X13_keepsDomain : MT := (43, 1, 7, cX13_keepsDomain, [])
def M_X13_keepsBounds : MT := (43, 1, 6, cX13_keepsBounds, [])
def M_X13_keepsMay : MT := (43, 1, 4, cX13_keepsMay, [])
def M_X13_narrowsIf : MT := (43, 1, 6, cX13_narrowsIf, [])
def M_X13_takes_2 : MT := (43, 1, 4, cX13_takes_2, [])
def M_X13_meets : MT := (43, 1, 6, cX13_meets, [])
def M_X13_keeps : MT := (43, 1, 4, cX13_keeps, [])
def M_X13_isShared : MT := (43, 1, 4, cX13_isShared, [])
def M_X13_narrowsNumber : MT := (43, 1, 8, cX13_narrowsNumber, [])
def M_X13_meets_2 : MT := (43, 1, 2, cX13_meets_2, [])
def M_X13_narrowsAbs : MT := (43, 1, 6, cX13_narrowsAbs, [])
def M_X13_narrowsTrue : MT := (43, 1, 4, cX13_narrowsTrue, [])
def M_X13_same : MT := (43, 1, 4, cX13_same, [])
def M_X13_unlike : MT := (43, 1, 4, cX13_unlike, [])
def M_X13_isOut : MT := (43, 1, 8, cX13_isOut, [])
def M_X13_ordered : MT := (43, 1, 3, cX13_ordered, [])
def M_X13_inLeast : MT := (43, 1, 8, cX13_inLeast, [])
def M_X13_narrowsFalse : MT := (43, 1, 4, cX13_narrowsFalse, [])
def M_X13_areOut : MT := (43, 1, 9, cX13_areOut, [])
def M_X13_isNarrower : MT := (43, 1, 7, cX13_isNarrower, [])
def M_X13_tells : MT := (43, 10, 1, cX13_tells, [])
def M_X13_end : MT := (43, 1, 1, cX13_end, [])
def M_X13_search : MT := (43, 1, 4, cX13_search, [])
def M_X13_push : MT := (43, 10, 2, cX13_push, [])
def M_X13_steps : MT := (43, 0, 6, cX13_steps, [])
def M_X13_step : MT := (43, 0, 5, cX13_step, [])
def M_X13_pop : MT := (43, 10, 2, cX13_pop, [])
def M_X13_isFixed : MT := (43, 1, 2, cX13_isFixed, [])
def M_X13_next : MT := (43, 7, 2, cX13_next, [])
def M_X13_splits : MT := (43, 10, 8, cX13_splits, [])
def M_X13_middle : MT := (43, 7, 8, cX13_middle, [])
def M_X13_looksAgain : MT := (43, 0, 3, cX13_looksAgain, [])
def M_X13_keepsBest : MT := (43, 10, 3, cX13_keepsBest, [])
def M_X13_look : MT := (43, 0, 2, cX13_look, [])
def M_X13_count : MT := (43, 0, 2, cX13_count, [])
def M_X13_sort : MT := (43, 0, 2, cX13_sort, [])
def M_X13_isVariable : MT := (43, 1, 2, cX13_isVariable, [])
def M_X13_fails0 : MT := (43, 0, 2, cX13_fails0, [])
def M_X13_size : MT := (43, 0, 2, cX13_size, [])
def M_X13_sizeOf : MT := (43, 0, 3, cX13_sizeOf, [])
def M_X13_thing : MT := (43, 5, 3, cX13_thing, [])
def M_X13_thingOf : MT := (43, 5, 13, cX13_thingOf, [])
def M_X13_bits : MT := (43, 5, 4, cX13_bits, [])
def M_X13_row_2 : MT := (43, 0, 3, cX13_row_2, [])
def M_X13_weight : MT := (43, 0, 3, cX13_weight, [])
def M_X13_rule : MT := (43, 0, 5, cX13_rule, [])
def M_X13_aim : MT := (43, 5, 2, cX13_aim, [])
def M_X13_best : MT := (43, 5, 3, cX13_best, [])
def M_X1_statement : MT := (31, 0, 2, cX1_statement, [(0, 15, 16, [44, 1005, 1014, 1012, 1034, 1035, 1037, 1038, 1039, 1040, 1042, 1043, 1004]), (0, 15, 27, [4, 1005, 1014, 1012, 1034, 1035, 1037, 1038, 1039, 1040, 1042, 1043, 1044])])
def M_X4_over : MT := (34, 0, 4, cX4_over, [(0, 3, 4, [12, 1005, 1014, 1034, 1035, 1037, 1038, 1039, 1040, 1042, 1043, 1044, 1004])])
def M_X4_rest : MT := (34, 0, 4, cX4_rest, [(0, 3, 4, [12, 1005, 1014, 1034, 1035, 1037, 1038, 1039, 1040, 1042, 1043, 1044, 1004])])
def M_X4_placed : MT := (34, 8, 8, cX4_placed, [(72, 78, 81, [14, 1005, 1012, 1034, 1035, 1037, 1038, 1039, 1040, 1042, 1043, 1044, 1004]), (92, 99, 102, [5, 1014, 1012, 1034, 1035, 1037, 1038, 1039, 1040, 1042, 1043, 1044, 1004])])
def M_X4_hold : MT := (34, 10, 4, cX4_hold, [(0, 5, 8, [5, 1014, 1012, 1034, 1035, 1037, 1038, 1039, 1040, 1042, 1043, 1044, 1004])])
def M_X4_total : MT := (34, 10, 6, cX4_total, [(0, 6, 9, [5, 1014, 1012, 1034, 1035, 1037, 1038, 1039, 1040, 1042, 1043, 1044, 1004])])
def M_X4_sortOf : MT := (34, 0, 3, cX4_sortOf, [(0, 4, 5, [5, 1014, 1012, 1034, 1035, 1037, 1038, 1039, 1040, 1042, 1043, 1044, 1004])])
def M_X12_give : MT := (42, 10, 5, cX12_give, [(0, 5, 8, [35, 1005, 1014, 1012, 1034, 1037, 1038, 1039, 1040, 1042, 1043, 1044, 1004])])
def M_X8_give : MT := (38, 10, 5, cX8_give, [(0, 5, 8, [35, 1005, 1014, 1012, 1034, 1037, 1038, 1039, 1040, 1042, 1043, 1044, 1004])])
def M_X9_give : MT := (39, 10, 5, cX9_give, [(0, 5, 8, [35, 1005, 1014, 1012, 1034, 1037, 1038, 1039, 1040, 1042, 1043, 1044, 1004])])
def M_X11_give : MT := (41, 10, 5, cX11_give, [(0, 5, 8, [35, 1005, 1014, 1012, 1034, 1037, 1038, 1039, 1040, 1042, 1043, 1044, 1004])])
def M_X10_give : MT := (40, 10, 5, cX10_give, [(17, 22, 25, [35, 1005, 1014, 1012, 1034, 1037, 1038, 1039, 1040, 1042, 1043, 1044, 1004])])
def M_X4_reals : MT := (34, 8, 3, cX4_reals, [(0, 4, 5, [34, 1005, 1014, 1012, 1035, 1037, 1038, 1039, 1040, 1042, 1043, 1044, 1004])])
def M_X4_smalls : MT := (34, 8, 3, cX4_smalls, [(0, 4, 5, [34, 1005, 1014, 1012, 1035, 1037, 1038, 1039, 1040, 1042, 1043, 1044, 1004])])
def M_X4_wholes : MT := (34, 8, 3, cX4_wholes, [(0, 4, 5, [34, 1005, 1014, 1012, 1035, 1037, 1038, 1039, 1040, 1042, 1043, 1044, 1004])])
def M_X4_truths : MT := (34, 8, 3, cX4_truths, [(0, 4, 5, [34, 1005, 1014, 1012, 1035, 1037, 1038, 1039, 1040, 1042, 1043, 1044, 1004])])
def M_X4_lettersOf : MT := (34, 8, 3, cX4_lettersOf, [(0, 4, 5, [34, 1005, 1014, 1012, 1035, 1037, 1038, 1039, 1040, 1042, 1043, 1044, 1004])])
def M_X4_anys : MT := (34, 8, 3, cX4_anys, [(0, 4, 5, [34, 1005, 1014, 1012, 1035, 1037, 1038, 1039, 1040, 1042, 1043, 1044, 1004])])
def M_X4_put : MT := (34, 10, 5, cX4_put, [(0, 4, 7, [14, 1005, 1012, 1034, 1035, 1037, 1038, 1039, 1040, 1042, 1043, 1044, 1004]), (0, 4, 18, [37, 1005, 1014, 1012, 1034, 1035, 1038, 1039, 1040, 1042, 1043, 1044, 1004])])
def M_X4_copy : MT := (34, 10, 8, cX4_copy, [(72, 89, 92, [14, 1005, 1012, 1034, 1035, 1037, 1038, 1039, 1040, 1042, 1043, 1044, 1004])])
def M_X3_narrow : MT := (33, 0, 2, cX3_narrow, [(14, 18, 19, [42, 1005, 1014, 1012, 1034, 1035, 1037, 1038, 1039, 1040, 1043, 1044, 1004]), (14, 18, 23, [43, 1005, 1014, 1012, 1034, 1035, 1037, 1038, 1039, 1040, 1042, 1044, 1004])])
def M_X8_low : MT := (38, 7, 3, cX8_low, [(8, 11, 12, [5, 1014, 1012, 1034, 1035, 1037, 1038, 1039, 1040, 1042, 1043, 1044, 1004])])
def M_X9_low : MT := (39, 7, 3, cX9_low, [(8, 12, 13, [5, 1014, 1012, 1034, 1035, 1037, 1038, 1039, 1040, 1042, 1043, 1044, 1004])])
def M_X10_low : MT := (40, 7, 3, cX10_low, [(8, 12, 13, [5, 1014, 1012, 1034, 1035, 1037, 1038, 1039, 1040, 1042, 1043, 1044, 1004])])
def M_X3_narrows : MT := (33, 10, 6, cX3_narrows, [(39, 58, 87, []), (87, 89, 87, [])])
def M_X11_may : MT := (41, 1, 4, cX11_may, [(8, 19, 20, [5, 1014, 1012, 1034, 1035, 1037, 1038, 1039, 1040, 1042, 1043, 1044, 1004])])
def M_X12_letters : MT := (42, 0, 5, cX12_letters, [(8, 12, 15, [5, 1014, 1012, 1034, 1035, 1037, 1038, 1039, 1040, 1042, 1043, 1044, 1004])])
def M_X12_thing : MT := (42, 5, 5, cX12_thing, [(8, 12, 15, [5, 1014, 1012, 1034, 1035, 1037, 1038, 1039, 1040, 1042, 1043, 1044, 1004]), (8, 12, 21, [14, 1005, 1012, 1034, 1035, 1037, 1038, 1039, 1040, 1042, 1043, 1044, 1004])])
def M_X8_thing : MT := (38, 5, 6, cX8_thing, [(8, 12, 15, [5, 1014, 1012, 1034, 1035, 1037, 1038, 1039, 1040, 1042, 1043, 1044, 1004]), (8, 12, 21, [14, 1005, 1012, 1034, 1035, 1037, 1038, 1039, 1040, 1042, 1043, 1044, 1004])])
def M_X9_thing : MT := (39, 5, 5, cX9_thing, [(8, 12, 15, [5, 1014, 1012, 1034, 1035, 1037, 1038, 1039, 1040, 1042, 1043, 1044, 1004]), (8, 12, 21, [14, 1005, 1012, 1034, 1035, 1037, 1038, 1039, 1040, 1042, 1043, 1044, 1004])])
def M_X11_thing : MT := (41, 5, 5, cX11_thing, [(8, 12, 15, [5, 1014, 1012, 1034, 1035, 1037, 1038, 1039, 1040, 1042, 1043, 1044, 1004])])
def M_X10_thing : MT := (40, 5, 5, cX10_thing, [(8, 12, 15, [5, 1014, 1012, 1034, 1035, 1037, 1038, 1039, 1040, 1042, 1043, 1044, 1004]), (8, 12, 21, [14, 1005, 1012, 1034, 1035, 1037, 1038, 1039, 1040, 1042, 1043, 1044, 1004])])
def M_X3_step : MT := (33, 0, 2, cX3_step, [(28, 44, 47, [42, 1005, 1014, 1012, 1034, 1035, 1037, 1038, 1039, 1040, 1043, 1044, 1004]), (28, 44, 60, [43, 1005, 1014, 1012, 1034, 1035, 1037, 1038, 1039, 1040, 1042, 1044, 1004])])
def M_X3_judged : MT := (33, 0, 3, cX3_judged, [(0, 5, 8, [42, 1005, 1014, 1012, 1034, 1035, 1037, 1038, 1039, 1040, 1043, 1044, 1004]), (0, 5, 12, [43, 1005, 1014, 1012, 1034, 1035, 1037, 1038, 1039, 1040, 1042, 1044, 1004])])
def M_X0_sort : MT := (30, 0, 4, cX0_sort, [(0, 9, 12, [40, 1005, 1014, 1012, 1034, 1035, 1037, 1038, 1039, 1042, 1043, 1044, 1004])])
def M_X0_size : MT := (30, 0, 4, cX0_size, [(0, 9, 12, [40, 1005, 1014, 1012, 1034, 1035, 1037, 1038, 1039, 1042, 1043, 1044, 1004])])
def M_X0_thing : MT := (30, 0, 5, cX0_thing, [(0, 9, 12, [40, 1005, 1014, 1012, 1034, 1035, 1037, 1038, 1039, 1042, 1043, 1044, 1004]), (0, 9, 16, [38, 1005, 1014, 1012, 1034, 1035, 1037, 1039, 1040, 1042, 1043, 1044, 1004]), (0, 9, 20, [14, 39, 1005, 1012, 1034, 1035, 1037, 1038, 1040, 1042, 1043, 1044, 1004])])
def M_X0_row : MT := (30, 0, 5, cX0_row, [(0, 10, 13, [40, 1005, 1014, 1012, 1034, 1035, 1037, 1038, 1039, 1042, 1043, 1044, 1004]), (0, 10, 17, [14, 39, 1005, 1012, 1034, 1035, 1037, 1038, 1040, 1042, 1043, 1044, 1004])])
def M_X1_row : MT := (31, 0, 6, cX1_row, [(47, 55, 58, [14, 1005, 1012, 1034, 1035, 1037, 1038, 1039, 1040, 1042, 1043, 1044, 1004]), (68, 73, 74, [5, 1014, 1012, 1034, 1035, 1037, 1038, 1039, 1040, 1042, 1043, 1044, 1004])])
def M_X0_weight : MT := (30, 0, 5, cX0_weight, [(0, 10, 13, [40, 1005, 1014, 1012, 1034, 1035, 1037, 1038, 1039, 1042, 1043, 1044, 1004]), (0, 10, 17, [38, 1005, 1014, 1012, 1034, 1035, 1037, 1039, 1040, 1042, 1043, 1044, 1004]), (0, 10, 21, [14, 39, 1005, 1012, 1034, 1035, 1037, 1038, 1040, 1042, 1043, 1044, 1004])])
def M_X1_weight : MT := (31, 0, 5, cX1_weight, [(9, 12, 13, [5, 1014, 1012, 1034, 1035, 1037, 1038, 1039, 1040, 1042, 1043, 1044, 1004]), (9, 12, 23, [14, 1005, 1012, 1034, 1035, 1037, 1038, 1039, 1040, 1042, 1043, 1044, 1004])])
def M_X0_rule : MT := (30, 0, 4, cX0_rule, [(0, 9, 12, [40, 1005, 1014, 1012, 1034, 1035, 1037, 1038, 1039, 1042, 1043, 1044, 1004])])
def M_X0_aim : MT := (30, 0, 4, cX0_aim, [(0, 8, 11, [38, 1005, 1014, 1012, 1034, 1035, 1037, 1039, 1040, 1042, 1043, 1044, 1004]), (0, 8, 14, [14, 39, 1005, 1012, 1034, 1035, 1037, 1038, 1040, 1042, 1043, 1044, 1004])])
def M_X0_best : MT := (30, 0, 5, cX0_best, [(0, 9, 12, [38, 1005, 1014, 1012, 1034, 1035, 1037, 1039, 1040, 1042, 1043, 1044, 1004]), (0, 9, 16, [40, 1005, 1014, 1012, 1034, 1035, 1037, 1038, 1039, 1042, 1043, 1044, 1004]), (0, 9, 20, [14, 39, 1005, 1012, 1034, 1035, 1037, 1038, 1040, 1042, 1043, 1044, 1004])])
def M_X3_best : MT := (33, 5, 7, cX3_best, [(62, 74, 89, []), (89, 91, 89, [])])
def M_L_law : MT := (30, 1, 8, cL_law, [])
def mt (k : Nat) : MT := if k < 323 then (if k < 161 then (if k < 80 then (if k < 40 then (if k < 20 then (if k < 10 then (if k < 5 then (if k < 2 then (if k < 1 then (if k = 0 then M_X1_init else M_X1_init) else (if k = 1 then M_J29_init else M_X1_init)) else (if k < 3 then (if k = 2 then M_X2_init else M_X1_init) else (if k < 4 then (if k = 3 then M_X3_init else M_X1_init) else (if k = 4 then M_X4_init else M_X1_init)))) else (if k < 7 then (if k < 6 then (if k = 5 then M_J0_init else M_X1_init) else (if k = 6 then M_X5_init else M_X1_init)) else (if k < 8 then (if k = 7 then M_J2_init else M_X1_init) else (if k < 9 then (if k = 8 then M_J1_init else M_X1_init) else (if k = 9 then M_J0_init_2 else M_X1_init))))) else (if k < 15 then (if k < 12 then (if k < 11 then (if k = 10 then M_X4_variable else M_X1_init) else (if k = 11 then M_X8_init else M_X1_init)) else (if k < 13 then (if k = 12 then M_X7_init else M_X1_init) else (if k < 14 then (if k = 13 then M_X6_init else M_X1_init) else (if k = 14 then M_X9_init else M_X1_init)))) else (if k < 17 then (if k < 16 then (if k = 15 then M_X10_init else M_X1_init) else (if k = 16 then M_X11_init else M_X1_init)) else (if k < 18 then (if k = 17 then M_X12_init else M_X1_init) else (if k < 19 then (if k = 18 then M_X3_clear else M_X1_init) else (if k = 19 then M_X3_zero else M_X1_init)))))) else (if k < 30 then (if k < 25 then (if k < 22 then (if k < 21 then (if k = 20 then M_X1_feed else M_X1_init) else (if k = 21 then M_X1_tell else M_X1_init)) else (if k < 23 then (if k = 22 then M_X3_end else M_X1_init) else (if k < 24 then (if k = 23 then M_X3_load else M_X1_init) else (if k = 24 then M_X8_set else M_X1_init)))) else (if k < 27 then (if k < 26 then (if k = 25 then M_X9_set else M_X1_init) else (if k = 26 then M_X10_set else M_X1_init)) else (if k < 28 then (if k = 27 then M_X10_begin else M_X1_init) else (if k < 29 then (if k = 28 then M_X11_set else M_X1_init) else (if k = 29 then M_X12_set else M_X1_init))))) else (if k < 35 then (if k < 32 then (if k < 31 then (if k = 30 then M_X12_begin else M_X1_init) else (if k = 31 then M_X2_begin else M_X1_init)) else (if k < 33 then (if k = 32 then M_X2_next else M_X1_init) else (if k < 34 then (if k = 33 then M_X2_byteAt else M_X1_init) else (if k = 34 then M_X2_isLetter else M_X1_init)))) else (if k < 37 then (if k < 36 then (if k = 35 then M_X2_word else M_X1_init) else (if k = 36 then M_X2_isDigit else M_X1_init)) else (if k < 38 then (if k = 37 then M_X2_are else M_X1_init) else (if k < 39 then (if k = 38 then M_J3_length else M_X1_init) else (if k = 39 then M_J3_coder else M_X1_init))))))) else (if k < 60 then (if k < 50 then (if k < 45 then (if k < 42 then (if k < 41 then (if k = 40 then M_J3_charAt else M_X1_init) else (if k = 41 then M_J3_isLatin1 else M_X1_init)) else (if k < 43 then (if k = 42 then M_J4_charAt else M_X1_init) else (if k < 44 then (if k = 43 then M_J3_checkIndex else M_X1_init) else (if k = 44 then M_J5_checkIndex else M_X1_init)))) else (if k < 47 then (if k < 46 then (if k = 45 then M_J6_charAt else M_X1_init) else (if k = 46 then M_J6_checkIndex else M_X1_init)) else (if k < 48 then (if k = 47 then M_J6_length else M_X1_init) else (if k < 49 then (if k = 48 then M_J6_getChar else M_X1_init) else (if k = 49 then M_X2_numeral else M_X1_init))))) else (if k < 55 then (if k < 52 then (if k < 51 then (if k = 50 then M_X2_quoted else M_X1_init) else (if k = 51 then M_X2_sign else M_X1_init)) else (if k < 53 then (if k = 52 then M_X2_hasEnded else M_X1_init) else (if k < 54 then (if k = 53 then M_X2_place else M_X1_init) else (if k = 54 then M_X2_statement else M_X1_init)))) else (if k < 57 then (if k < 56 then (if k = 55 then M_X2_name else M_X1_init) else (if k = 56 then M_X2_need else M_X1_init)) else (if k < 58 then (if k = 57 then M_X2_pass else M_X1_init) else (if k < 59 then (if k = 58 then M_X2_must else M_X1_init) else (if k = 59 then M_X2_takes else M_X1_init)))))) else (if k < 70 then (if k < 65 then (if k < 62 then (if k < 61 then (if k = 60 then M_X2_isSign else M_X1_init) else (if k = 61 then M_X2_put else M_X1_init)) else (if k < 63 then (if k = 62 then M_X2_value else M_X1_init) else (if k < 64 then (if k = 63 then M_X2_range else M_X1_init) else (if k = 64 then M_X2_bound else M_X1_init)))) else (if k < 67 then (if k < 66 then (if k = 65 then M_X14_plain else M_X1_init) else (if k = 66 then M_X2_numeralAt else M_X1_init)) else (if k < 68 then (if k = 67 then M_X2_set else M_X1_init) else (if k < 69 then (if k = 68 then M_X2_cons else M_X1_init) else (if k = 69 then M_X2_con else M_X1_init))))) else (if k < 75 then (if k < 72 then (if k < 71 then (if k = 70 then M_X2_enter else M_X1_init) else (if k = 71 then M_X2_product else M_X1_init)) else (if k < 73 then (if k = 72 then M_X2_single else M_X1_init) else (if k < 74 then (if k = 73 then M_X2_isWord else M_X1_init) else (if k = 74 then M_X2_worded else M_X1_init)))) else (if k < 77 then (if k < 76 then (if k = 75 then M_X2_sortOf else M_X1_init) else (if k = 76 then M_X2_row else M_X1_init)) else (if k < 78 then (if k = 77 then M_X2_place2 else M_X1_init) else (if k < 79 then (if k = 78 then M_X2_takesWord else M_X1_init) else (if k = 79 then M_X2_one else M_X1_init)))))))) else (if k < 120 then (if k < 100 then (if k < 90 then (if k < 85 then (if k < 82 then (if k < 81 then (if k = 80 then M_X2_copy else M_X1_init) else (if k = 81 then M_X2_ex else M_X1_init)) else (if k < 83 then (if k = 82 then M_X2_joined else M_X1_init) else (if k < 84 then (if k = 83 then M_X2_both else M_X1_init) else (if k = 84 then M_X2_denied else M_X1_init)))) else (if k < 87 then (if k < 86 then (if k = 85 then M_X2_relation else M_X1_init) else (if k = 86 then M_X2_sum else M_X1_init)) else (if k < 88 then (if k = 87 then M_X2_times else M_X1_init) else (if k < 89 then (if k = 88 then M_X2_minus else M_X1_init) else (if k = 89 then M_X2_atom else M_X1_init))))) else (if k < 95 then (if k < 92 then (if k < 91 then (if k = 90 then M_X2_call else M_X1_init) else (if k = 91 then M_X2_among else M_X1_init)) else (if k < 93 then (if k = 92 then M_X4_run else M_X1_init) else (if k < 94 then (if k = 93 then M_X4_reckon else M_X1_init) else (if k = 94 then M_X4_push else M_X1_init)))) else (if k < 97 then (if k < 96 then (if k = 95 then M_X4_number else M_X1_init) else (if k = 96 then M_X4_find else M_X1_init)) else (if k < 98 then (if k = 97 then M_X2_length else M_X1_init) else (if k < 99 then (if k = 98 then M_X5_of else M_X1_init) else (if k = 99 then M_J7_init else M_X1_init)))))) else (if k < 110 then (if k < 105 then (if k < 102 then (if k < 101 then (if k = 100 then M_J2_init_2 else M_X1_init) else (if k = 101 then M_J1_init_2 else M_X1_init)) else (if k < 103 then (if k = 102 then M_J0_init_3 else M_X1_init) else (if k < 104 then (if k = 103 then M_X4_simple else M_X1_init) else (if k = 104 then M_X4_set else M_X1_init)))) else (if k < 107 then (if k < 106 then (if k = 105 then M_X4_letters else M_X1_init) else (if k = 106 then M_X4_plain else M_X1_init)) else (if k < 108 then (if k = 107 then M_J9_init else M_X1_init) else (if k < 109 then (if k = 108 then M_J8_init else M_X1_init) else (if k = 109 then M_J10_init else M_X1_init))))) else (if k < 115 then (if k < 112 then (if k < 111 then (if k = 110 then M_J2_init_3 else M_X1_init) else (if k = 111 then M_J1_init_3 else M_X1_init)) else (if k < 113 then (if k = 112 then M_X4_express else M_X1_init) else (if k < 114 then (if k = 113 then M_X4_constant else M_X1_init) else (if k = 114 then M_X4_counts else M_X1_init)))) else (if k < 117 then (if k < 116 then (if k = 115 then M_X16_init else M_X1_init) else (if k = 116 then M_X15_init else M_X1_init)) else (if k < 118 then (if k = 117 then M_X4_part else M_X1_init) else (if k < 119 then (if k = 118 then M_X4_truth else M_X1_init) else (if k = 119 then M_X4_sorts else M_X1_init))))))) else (if k < 140 then (if k < 130 then (if k < 125 then (if k < 122 then (if k < 121 then (if k = 120 then M_X4_named else M_X1_init) else (if k = 121 then M_X4_leaf else M_X1_init)) else (if k < 123 then (if k = 122 then M_X17_init else M_X1_init) else (if k < 124 then (if k = 123 then M_X4_taken else M_X1_init) else (if k = 124 then M_X31_sort else M_X1_init)))) else (if k < 127 then (if k < 126 then (if k = 125 then M_X37_sort else M_X1_init) else (if k = 126 then M_X16_sort else M_X1_init)) else (if k < 128 then (if k = 127 then M_X24_sort else M_X1_init) else (if k < 129 then (if k = 128 then M_X17_sort else M_X1_init) else (if k = 129 then M_X12_sort else M_X1_init))))) else (if k < 135 then (if k < 132 then (if k < 131 then (if k = 130 then M_X8_sort else M_X1_init) else (if k = 131 then M_X9_sort else M_X1_init)) else (if k < 133 then (if k = 132 then M_X11_sort else M_X1_init) else (if k < 134 then (if k = 133 then M_X10_sort else M_X1_init) else (if k = 134 then M_X18_sort else M_X1_init)))) else (if k < 137 then (if k < 136 then (if k = 135 then M_X19_init else M_X1_init) else (if k = 136 then M_X18_init else M_X1_init)) else (if k < 138 then (if k = 137 then M_X4_call else M_X1_init) else (if k < 139 then (if k = 138 then M_X20_init else M_X1_init) else (if k = 139 then M_X21_init else M_X1_init)))))) else (if k < 150 then (if k < 145 then (if k < 142 then (if k < 141 then (if k = 140 then M_X22_init else M_X1_init) else (if k = 141 then M_X23_init else M_X1_init)) else (if k < 143 then (if k = 142 then M_X4_two else M_X1_init) else (if k < 144 then (if k = 143 then M_X25_init else M_X1_init) else (if k = 144 then M_X24_init else M_X1_init)))) else (if k < 147 then (if k < 146 then (if k = 145 then M_X26_init else M_X1_init) else (if k = 146 then M_X28_init else M_X1_init)) else (if k < 148 then (if k = 147 then M_X27_init else M_X1_init) else (if k < 149 then (if k = 148 then M_X29_init else M_X1_init) else (if k = 149 then M_X30_init else M_X1_init))))) else (if k < 155 then (if k < 152 then (if k < 151 then (if k = 150 then M_X33_init else M_X1_init) else (if k = 151 then M_X32_init else M_X1_init)) else (if k < 153 then (if k = 152 then M_X31_init else M_X1_init) else (if k < 154 then (if k = 153 then M_X34_init else M_X1_init) else (if k = 154 then M_X35_init else M_X1_init)))) else (if k < 158 then (if k < 156 then (if k = 155 then M_X36_init else M_X1_init) else (if k < 157 then (if k = 156 then M_X4_choice else M_X1_init) else (if k = 157 then M_X37_init else M_X1_init))) else (if k < 159 then (if k = 158 then M_X4_ofRow else M_X1_init) else (if k < 160 then (if k = 159 then M_X4_rowOf else M_X1_init) else (if k = 160 then M_X4_different else M_X1_init))))))))) else (if k < 242 then (if k < 201 then (if k < 181 then (if k < 171 then (if k < 166 then (if k < 163 then (if k < 162 then (if k = 161 then M_X4_sum else M_X1_init) else (if k = 162 then M_X4_added else M_X1_init)) else (if k < 164 then (if k = 163 then M_X4_count else M_X1_init) else (if k < 165 then (if k = 164 then M_X4_among else M_X1_init) else (if k = 165 then M_X38_init else M_X1_init)))) else (if k < 168 then (if k < 167 then (if k = 166 then M_X4_state else M_X1_init) else (if k = 167 then M_X4_tell else M_X1_init)) else (if k < 169 then (if k = 168 then M_J12_init else M_X1_init) else (if k < 170 then (if k = 169 then M_J11_init else M_X1_init) else (if k = 170 then M_J6_newBytesFor else M_X1_init))))) else (if k < 176 then (if k < 173 then (if k < 172 then (if k = 171 then M_J6_newBytesLength else M_X1_init) else (if k = 172 then M_J13_init else M_X1_init)) else (if k < 174 then (if k = 173 then M_J12_append else M_X1_init) else (if k < 175 then (if k = 174 then M_J11_append else M_X1_init) else (if k = 175 then M_J11_ensureCapacityInternal else M_X1_init)))) else (if k < 178 then (if k < 177 then (if k = 176 then M_J11_newCapacity else M_X1_init) else (if k = 177 then M_J14_newLength else M_X1_init)) else (if k < 179 then (if k = 178 then M_J15_max else M_X1_init) else (if k < 180 then (if k = 179 then M_J14_hugeLength else M_X1_init) else (if k = 180 then M_J16_copyOf else M_X1_init)))))) else (if k < 191 then (if k < 186 then (if k < 183 then (if k < 182 then (if k = 181 then M_J15_min else M_X1_init) else (if k = 182 then M_J11_isLatin1 else M_X1_init)) else (if k < 184 then (if k = 183 then M_J4_canEncode else M_X1_init) else (if k < 185 then (if k = 184 then M_J11_inflate else M_X1_init) else (if k = 185 then M_J4_inflate else M_X1_init)))) else (if k < 188 then (if k < 187 then (if k = 186 then M_J6_inflate else M_X1_init) else (if k = 187 then M_J6_checkBoundsOffCount else M_X1_init)) else (if k < 189 then (if k = 188 then M_J3_checkBoundsOffCount else M_X1_init) else (if k < 190 then (if k = 189 then M_J5_checkFromIndexSize else M_X1_init) else (if k = 190 then M_J6_putChar else M_X1_init))))) else (if k < 196 then (if k < 193 then (if k < 192 then (if k = 191 then M_J6_putCharSB else M_X1_init) else (if k = 192 then M_J12_toString else M_X1_init)) else (if k < 194 then (if k = 193 then M_J3_init else M_X1_init) else (if k < 195 then (if k = 194 then M_J3_init_2 else M_X1_init) else (if k = 195 then M_J11_getValue else M_X1_init)))) else (if k < 198 then (if k < 197 then (if k = 196 then M_J12_length else M_X1_init) else (if k = 197 then M_J11_length else M_X1_init)) else (if k < 199 then (if k = 198 then M_J16_copyOfRange else M_X1_init) else (if k < 200 then (if k = 199 then M_J16_copyOfRangeByte else M_X1_init) else (if k = 200 then M_J16_checkLength else M_X1_init))))))) else (if k < 221 then (if k < 211 then (if k < 206 then (if k < 203 then (if k < 202 then (if k = 201 then M_J6_compress else M_X1_init) else (if k = 202 then M_J6_compress_2 else M_X1_init)) else (if k < 204 then (if k = 203 then M_J6_coderFromArrayLen else M_X1_init) else (if k < 205 then (if k = 204 then M_X4_another else M_X1_init) else (if k = 205 then M_X4_variableOf else M_X1_init)))) else (if k < 208 then (if k < 207 then (if k = 206 then M_J17_init else M_X1_init) else (if k = 207 then M_X9_under else M_X1_init)) else (if k < 209 then (if k = 208 then M_J15_nextDown else M_X1_init) else (if k < 210 then (if k = 209 then M_J18_isNaN else M_X1_init) else (if k = 210 then M_X9_plain else M_X1_init))))) else (if k < 216 then (if k < 213 then (if k < 212 then (if k = 211 then M_X9_over else M_X1_init) else (if k = 212 then M_J15_nextUp else M_X1_init)) else (if k < 214 then (if k = 213 then M_X10_range else M_X1_init) else (if k < 215 then (if k = 214 then M_J15_ceil else M_X1_init) else (if k = 215 then M_J19_ceil else M_X1_init)))) else (if k < 218 then (if k < 217 then (if k = 216 then M_J19_floorOrCeil else M_X1_init) else (if k = 217 then M_J15_getExponent else M_X1_init)) else (if k < 219 then (if k = 218 then M_J15_floor else M_X1_init) else (if k < 220 then (if k = 219 then M_J19_floor else M_X1_init) else (if k = 220 then M_X10_add else M_X1_init)))))) else (if k < 231 then (if k < 226 then (if k < 223 then (if k < 222 then (if k = 221 then M_X4_row else M_X1_init) else (if k = 222 then M_J13_init_2 else M_X1_init)) else (if k < 224 then (if k = 223 then M_X39_init else M_X1_init) else (if k < 225 then (if k = 224 then M_X4_fill else M_X1_init) else (if k = 225 then M_J21_init else M_X1_init)))) else (if k < 228 then (if k < 227 then (if k = 226 then M_X4_fits else M_X1_init) else (if k = 227 then M_X4_rule else M_X1_init)) else (if k < 229 then (if k = 228 then M_X4_aim else M_X1_init) else (if k < 230 then (if k = 229 then M_X1_fault else M_X1_init) else (if k = 230 then M_X1_forget else M_X1_init))))) else (if k < 236 then (if k < 233 then (if k < 232 then (if k = 231 then M_X4_clear else M_X1_init) else (if k = 232 then M_X1_narrow else M_X1_init)) else (if k < 234 then (if k = 233 then M_X3_rounds else M_X1_init) else (if k < 235 then (if k = 234 then M_X3_note else M_X1_init) else (if k = 235 then M_X12_things else M_X1_init)))) else (if k < 239 then (if k < 237 then (if k = 236 then M_X8_things else M_X1_init) else (if k < 238 then (if k = 237 then M_X9_things else M_X1_init) else (if k = 238 then M_X11_things else M_X1_init))) else (if k < 240 then (if k = 239 then M_X10_things else M_X1_init) else (if k < 241 then (if k = 240 then M_X3_isBounded else M_X1_init) else (if k = 241 then M_X40_hasBounds else M_X1_init)))))))) else (if k < 282 then (if k < 262 then (if k < 252 then (if k < 247 then (if k < 244 then (if k < 243 then (if k = 242 then M_X8_hasBounds else M_X1_init) else (if k = 243 then M_X9_hasBounds else M_X1_init)) else (if k < 245 then (if k = 244 then M_X8_high else M_X1_init) else (if k < 246 then (if k = 245 then M_X9_high else M_X1_init) else (if k = 246 then M_X10_high else M_X1_init)))) else (if k < 249 then (if k < 248 then (if k = 247 then M_X32_forwards else M_X1_init) else (if k = 248 then M_X38_forwards else M_X1_init)) else (if k < 250 then (if k = 249 then M_X37_forwards else M_X1_init) else (if k < 251 then (if k = 250 then M_X16_forwards else M_X1_init) else (if k = 251 then M_X15_be else M_X1_init))))) else (if k < 257 then (if k < 254 then (if k < 253 then (if k = 252 then M_X15_truth else M_X1_init) else (if k = 253 then M_X24_forwards else M_X1_init)) else (if k < 255 then (if k = 254 then M_X17_forwards else M_X1_init) else (if k < 256 then (if k = 255 then M_X18_forwards else M_X1_init) else (if k = 256 then M_X36_forwards else M_X1_init)))) else (if k < 259 then (if k < 258 then (if k = 257 then M_X20_reckon else M_X1_init) else (if k = 258 then M_J15_abs else M_X1_init)) else (if k < 260 then (if k = 259 then M_J15_max_2 else M_X1_init) else (if k < 261 then (if k = 260 then M_X19_reckon else M_X1_init) else (if k = 261 then M_X22_reckon else M_X1_init)))))) else (if k < 272 then (if k < 267 then (if k < 264 then (if k < 263 then (if k = 262 then M_X22_lower else M_X1_init) else (if k = 263 then M_J15_sqrt else M_X1_init)) else (if k < 265 then (if k = 264 then M_J19_sqrt else M_X1_init) else (if k < 266 then (if k = 265 then M_J24_compute else M_X1_init) else (if k = 266 then M_J25___HI else M_X1_init)))) else (if k < 269 then (if k < 268 then (if k = 267 then M_J25___LO else M_X1_init) else (if k = 268 then M_J26_compareUnsigned else M_X1_init)) else (if k < 270 then (if k = 269 then M_J26_compare else M_X1_init) else (if k < 271 then (if k = 270 then M_J25___HI_LO else M_X1_init) else (if k = 271 then M_X14_low else M_X1_init))))) else (if k < 277 then (if k < 274 then (if k < 273 then (if k = 272 then M_J15_nextDown_2 else M_X1_init) else (if k = 273 then M_J20_isNaN else M_X1_init)) else (if k < 275 then (if k = 274 then M_X14_high else M_X1_init) else (if k < 276 then (if k = 275 then M_J15_nextUp_2 else M_X1_init) else (if k = 276 then M_X21_reckon else M_X1_init)))) else (if k < 279 then (if k < 278 then (if k = 277 then M_X23_reckon else M_X1_init) else (if k = 278 then M_X23_step else M_X1_init)) else (if k < 280 then (if k = 279 then M_J15_rint else M_X1_init) else (if k < 281 then (if k = 280 then M_J19_rint else M_X1_init) else (if k = 281 then M_J15_copySign else M_X1_init))))))) else (if k < 302 then (if k < 292 then (if k < 287 then (if k < 284 then (if k < 283 then (if k = 282 then M_J15_signum else M_X1_init) else (if k = 283 then M_X26_reckon else M_X1_init)) else (if k < 285 then (if k = 284 then M_X30_reckon else M_X1_init) else (if k < 286 then (if k = 285 then M_J15_min_2 else M_X1_init) else (if k = 286 then M_X28_reckon else M_X1_init)))) else (if k < 289 then (if k < 288 then (if k = 287 then M_X27_times else M_X1_init) else (if k = 288 then M_X14_product else M_X1_init)) else (if k < 290 then (if k = 289 then M_X24_hull else M_X1_init) else (if k < 291 then (if k = 290 then M_X27_keep else M_X1_init) else (if k = 291 then M_X27_take else M_X1_init))))) else (if k < 297 then (if k < 294 then (if k < 293 then (if k = 292 then M_X29_reckon else M_X1_init) else (if k = 293 then M_X27_over else M_X1_init)) else (if k < 295 then (if k = 294 then M_X14_quotient else M_X1_init) else (if k < 296 then (if k = 295 then M_X25_reckon else M_X1_init) else (if k = 296 then M_X15_as else M_X1_init)))) else (if k < 299 then (if k < 298 then (if k = 297 then M_X38_judge else M_X1_init) else (if k = 298 then M_X38_judge_2 else M_X1_init)) else (if k < 300 then (if k = 299 then M_X38_bits else M_X1_init) else (if k < 301 then (if k = 300 then M_X38_judge_3 else M_X1_init) else (if k = 301 then M_X33_judge else M_X1_init)))))) else (if k < 312 then (if k < 307 then (if k < 304 then (if k < 303 then (if k = 302 then M_X15_hasMeet else M_X1_init) else (if k = 303 then M_X33_isOne else M_X1_init)) else (if k < 305 then (if k = 304 then M_J26_bitCount else M_X1_init) else (if k < 306 then (if k = 305 then M_X35_judge else M_X1_init) else (if k = 306 then M_X34_judge else M_X1_init)))) else (if k < 309 then (if k < 308 then (if k = 307 then M_X15_meets else M_X1_init) else (if k = 308 then M_X32_enter else M_X1_init)) else (if k < 310 then (if k = 309 then M_X33_hand else M_X1_init) else (if k < 311 then (if k = 310 then M_X15_meets_2 else M_X1_init) else (if k = 311 then M_X15_meet else M_X1_init))))) else (if k < 317 then (if k < 314 then (if k < 313 then (if k = 312 then M_X15_meets_3 else M_X1_init) else (if k = 313 then M_X33_loses else M_X1_init)) else (if k < 315 then (if k = 314 then M_X17_lose else M_X1_init) else (if k < 316 then (if k = 315 then M_X10_lose else M_X1_init) else (if k = 316 then M_X15_lose else M_X1_init)))) else (if k < 320 then (if k < 318 then (if k = 317 then M_X35_hand else M_X1_init) else (if k < 319 then (if k = 318 then M_X35_both else M_X1_init) else (if k = 319 then M_X35_either else M_X1_init))) else (if k < 321 then (if k = 320 then M_X35_follows else M_X1_init) else (if k < 322 then (if k = 321 then M_X34_hand else M_X1_init) else (if k = 322 then M_X31_enter else M_X1_init)))))))))) else (if k < 485 then (if k < 404 then (if k < 363 then (if k < 343 then (if k < 333 then (if k < 328 then (if k < 325 then (if k < 324 then (if k = 323 then M_X15_enter else M_X1_init) else (if k = 324 then M_X38_backwards else M_X1_init)) else (if k < 326 then (if k = 325 then M_X38_hand else M_X1_init) else (if k < 327 then (if k = 326 then M_X17_lose_2 else M_X1_init) else (if k = 327 then M_X10_lose_2 else M_X1_init)))) else (if k < 330 then (if k < 329 then (if k = 328 then M_X10_isIn else M_X1_init) else (if k = 329 then M_X15_lose_2 else M_X1_init)) else (if k < 331 then (if k = 330 then M_X38_hand_2 else M_X1_init) else (if k < 332 then (if k = 331 then M_X37_enter else M_X1_init) else (if k = 332 then M_X24_enter else M_X1_init))))) else (if k < 338 then (if k < 335 then (if k < 334 then (if k = 333 then M_X26_hand else M_X1_init) else (if k = 334 then M_X30_hand else M_X1_init)) else (if k < 336 then (if k = 335 then M_X28_hand else M_X1_init) else (if k < 337 then (if k = 336 then M_X41_shares else M_X1_init) else (if k = 337 then M_X28_share else M_X1_init)))) else (if k < 340 then (if k < 339 then (if k = 338 then M_X27_to else M_X1_init) else (if k = 339 then M_X25_share else M_X1_init)) else (if k < 341 then (if k = 340 then M_X29_hand else M_X1_init) else (if k < 342 then (if k = 341 then M_X25_hand else M_X1_init) else (if k = 342 then M_X17_enter else M_X1_init)))))) else (if k < 353 then (if k < 348 then (if k < 345 then (if k < 344 then (if k = 343 then M_X37_backwards else M_X1_init) else (if k = 344 then M_X17_backwards else M_X1_init)) else (if k < 346 then (if k = 345 then M_X8_keep else M_X1_init) else (if k < 347 then (if k = 346 then M_X9_keep else M_X1_init) else (if k = 347 then M_X10_keep else M_X1_init)))) else (if k < 350 then (if k < 349 then (if k = 348 then M_X11_keep else M_X1_init) else (if k = 349 then M_X12_keep else M_X1_init)) else (if k < 351 then (if k = 350 then M_X18_backwards else M_X1_init) else (if k < 352 then (if k = 351 then M_X20_hand else M_X1_init) else (if k = 352 then M_X20_mirrored else M_X1_init))))) else (if k < 358 then (if k < 355 then (if k < 354 then (if k = 353 then M_X19_hand else M_X1_init) else (if k = 354 then M_X22_hand else M_X1_init)) else (if k < 356 then (if k = 355 then M_X21_hand else M_X1_init) else (if k < 357 then (if k = 356 then M_X23_hand else M_X1_init) else (if k = 357 then M_X36_backwards else M_X1_init)))) else (if k < 360 then (if k < 359 then (if k = 358 then M_X15_backwards else M_X1_init) else (if k = 359 then M_X3_isLess else M_X1_init)) else (if k < 361 then (if k = 360 then M_X1_search else M_X1_init) else (if k < 362 then (if k = 361 then M_X3_search else M_X1_init) else (if k = 362 then M_X3_save else M_X1_init))))))) else (if k < 383 then (if k < 373 then (if k < 368 then (if k < 365 then (if k < 364 then (if k = 363 then M_X6_without else M_X1_init) else (if k = 364 then M_J27_init else M_X1_init)) else (if k < 366 then (if k = 365 then M_J8_init_2 else M_X1_init) else (if k < 367 then (if k = 366 then M_J20_doubleToLongBits else M_X1_init) else (if k = 367 then M_J18_floatToIntBits else M_X1_init)))) else (if k < 370 then (if k < 369 then (if k = 368 then M_X1_steps else M_X1_init) else (if k = 369 then M_X3_steps else M_X1_init)) else (if k < 371 then (if k = 370 then M_X3_aims else M_X1_init) else (if k < 372 then (if k = 371 then M_X12_isFixed else M_X1_init) else (if k = 372 then M_X8_isFixed else M_X1_init))))) else (if k < 378 then (if k < 375 then (if k < 374 then (if k = 373 then M_X9_isFixed else M_X1_init) else (if k = 374 then M_X11_isFixed else M_X1_init)) else (if k < 376 then (if k = 375 then M_X10_isFixed else M_X1_init) else (if k < 377 then (if k = 376 then M_X3_box else M_X1_init) else (if k = 377 then M_X3_keeps else M_X1_init)))) else (if k < 380 then (if k < 379 then (if k = 378 then M_X3_split else M_X1_init) else (if k = 379 then M_X3_middle else M_X1_init)) else (if k < 381 then (if k = 380 then M_X10_only else M_X1_init) else (if k < 382 then (if k = 381 then M_J26_numberOfTrailingZeros else M_X1_init) else (if k = 382 then M_X12_only else M_X1_init)))))) else (if k < 393 then (if k < 388 then (if k < 385 then (if k < 384 then (if k = 383 then M_X3_over else M_X1_init) else (if k = 384 then M_X1_end else M_X1_init)) else (if k < 386 then (if k = 385 then M_X1_look else M_X1_init) else (if k < 387 then (if k = 386 then M_X3_nodes else M_X1_init) else (if k = 387 then M_X1_count else M_X1_init)))) else (if k < 390 then (if k < 389 then (if k = 388 then M_X1_sort else M_X1_init) else (if k = 389 then M_X1_variable else M_X1_init)) else (if k < 391 then (if k = 390 then M_J28_init else M_X1_init) else (if k < 392 then (if k = 391 then M_X1_size else M_X1_init) else (if k = 392 then M_X1_toldOf else M_X1_init))))) else (if k < 398 then (if k < 395 then (if k < 394 then (if k = 393 then M_X40_told else M_X1_init) else (if k = 394 then M_X1_thing else M_X1_init)) else (if k < 396 then (if k = 395 then M_X1_rowAt else M_X1_init) else (if k < 397 then (if k = 396 then M_X1_rule else M_X1_init) else (if k = 397 then M_X1_aim else M_X1_init)))) else (if k < 401 then (if k < 399 then (if k = 398 then M_X1_best else M_X1_init) else (if k < 400 then (if k = 399 then M_X13_thrown else M_X1_init) else (if k = 400 then M_X13_init else M_X1_init))) else (if k < 402 then (if k = 401 then M_X13_forgets else M_X1_init) else (if k < 403 then (if k = 402 then M_X13_feed else M_X1_init) else (if k = 403 then M_X13_word else M_X1_init)))))))) else (if k < 444 then (if k < 424 then (if k < 414 then (if k < 409 then (if k < 406 then (if k < 405 then (if k = 404 then M_X13_forget else M_X1_init) else (if k = 405 then M_X13_tell else M_X1_init)) else (if k < 407 then (if k = 406 then M_X13_ends else M_X1_init) else (if k < 408 then (if k = 407 then M_X13_scan else M_X1_init) else (if k = 408 then M_X13_at else M_X1_init)))) else (if k < 411 then (if k < 410 then (if k = 409 then M_X13_token else M_X1_init) else (if k = 410 then M_X13_isLetter else M_X1_init)) else (if k < 412 then (if k = 411 then M_X13_isDigit else M_X1_init) else (if k < 413 then (if k = 412 then M_X13_isWord else M_X1_init) else (if k = 413 then M_J3_indexOf else M_X1_init))))) else (if k < 419 then (if k < 416 then (if k < 415 then (if k = 414 then M_J3_indexOf_2 else M_X1_init) else (if k = 415 then M_J4_indexOf else M_X1_init)) else (if k < 417 then (if k = 416 then M_J4_canEncode_2 else M_X1_init) else (if k < 418 then (if k = 417 then M_J4_indexOfChar else M_X1_init) else (if k = 418 then M_J6_indexOf else M_X1_init)))) else (if k < 421 then (if k < 420 then (if k = 419 then M_J6_indexOfChar else M_X1_init) else (if k = 420 then M_J6_checkBoundsBeginEnd else M_X1_init)) else (if k < 422 then (if k = 421 then M_J3_checkBoundsBeginEnd else M_X1_init) else (if k < 423 then (if k = 422 then M_J5_checkFromToIndex else M_X1_init) else (if k = 423 then M_J6_indexOfCharUnsafe else M_X1_init)))))) else (if k < 434 then (if k < 429 then (if k < 426 then (if k < 425 then (if k = 424 then M_J6_indexOfSupplementary else M_X1_init) else (if k = 425 then M_J22_isValidCodePoint else M_X1_init)) else (if k < 427 then (if k = 426 then M_J22_highSurrogate else M_X1_init) else (if k < 428 then (if k = 427 then M_J22_lowSurrogate else M_X1_init) else (if k = 428 then M_X13_readStatement else M_X1_init)))) else (if k < 431 then (if k < 430 then (if k = 429 then M_X13_takes else M_X1_init) else (if k = 430 then M_X13_is else M_X1_init)) else (if k < 432 then (if k = 431 then M_X13_take else M_X1_init) else (if k < 433 then (if k = 432 then M_X13_wrong else M_X1_init) else (if k = 433 then M_X13_mustBe else M_X1_init))))) else (if k < 439 then (if k < 436 then (if k < 435 then (if k = 434 then M_X13_must else M_X1_init) else (if k = 435 then M_X13_readCon else M_X1_init)) else (if k < 437 then (if k = 436 then M_X13_enters else M_X1_init) else (if k < 438 then (if k = 437 then M_X13_readCon2 else M_X1_init) else (if k = 438 then M_X13_readCon3 else M_X1_init)))) else (if k < 441 then (if k < 440 then (if k = 439 then M_X13_isWholeNumeral else M_X1_init) else (if k = 440 then M_X13_numeral else M_X1_init)) else (if k < 442 then (if k = 441 then M_X13_sortWord else M_X1_init) else (if k < 443 then (if k = 442 then M_X13_readValue else M_X1_init) else (if k = 443 then M_X13_readRange else M_X1_init))))))) else (if k < 464 then (if k < 454 then (if k < 449 then (if k < 446 then (if k < 445 then (if k = 444 then M_X13_readBound else M_X1_init) else (if k = 445 then M_X13_readSet else M_X1_init)) else (if k < 447 then (if k = 446 then M_X13_readPlace else M_X1_init) else (if k < 448 then (if k = 447 then M_X13_readOne else M_X1_init) else (if k = 448 then M_X13_readEx else M_X1_init)))) else (if k < 451 then (if k < 450 then (if k = 449 then M_X13_readNot else M_X1_init) else (if k = 450 then M_X13_readRel else M_X1_init)) else (if k < 452 then (if k = 451 then M_X13_readSum else M_X1_init) else (if k < 453 then (if k = 452 then M_X13_readMinus else M_X1_init) else (if k = 453 then M_X13_readAtom else M_X1_init))))) else (if k < 459 then (if k < 456 then (if k < 455 then (if k = 454 then M_X13_readArguments else M_X1_init) else (if k = 455 then M_X13_isCompared else M_X1_init)) else (if k < 457 then (if k = 456 then M_X13_doStatement else M_X1_init) else (if k < 458 then (if k = 457 then M_X13_domain else M_X1_init) else (if k = 458 then M_X13_named else M_X1_init)))) else (if k < 461 then (if k < 460 then (if k = 459 then M_X13_find else M_X1_init) else (if k = 460 then M_X13_key else M_X1_init)) else (if k < 462 then (if k = 461 then M_X13_fails else M_X1_init) else (if k < 463 then (if k = 462 then M_X13_value else M_X1_init) else (if k = 463 then M_X13_range else M_X1_init)))))) else (if k < 474 then (if k < 469 then (if k < 466 then (if k < 465 then (if k = 464 then M_X13_bound else M_X1_init) else (if k = 465 then M_X13_plain else M_X1_init)) else (if k < 467 then (if k = 466 then M_X13_set else M_X1_init) else (if k < 468 then (if k = 467 then M_X13_con else M_X1_init) else (if k = 468 then M_X13_con2 else M_X1_init)))) else (if k < 471 then (if k < 470 then (if k = 469 then M_X13_con3 else M_X1_init) else (if k = 470 then M_X13_letters else M_X1_init)) else (if k < 472 then (if k = 471 then M_X13_judge else M_X1_init) else (if k < 473 then (if k = 472 then M_X13_ceil else M_X1_init) else (if k = 473 then M_X13_floor else M_X1_init))))) else (if k < 479 then (if k < 476 then (if k < 475 then (if k = 474 then M_X13_gives else M_X1_init) else (if k = 475 then M_X13_smallBelow else M_X1_init)) else (if k < 477 then (if k = 476 then M_X13_smallUp else M_X1_init) else (if k < 478 then (if k = 477 then M_X13_smallAbove else M_X1_init) else (if k = 478 then M_X13_wholes else M_X1_init)))) else (if k < 482 then (if k < 480 then (if k = 479 then M_X13_inserts else M_X1_init) else (if k < 481 then (if k = 480 then M_X13_newVariable else M_X1_init) else (if k = 481 then M_X13_name else M_X1_init))) else (if k < 483 then (if k = 482 then M_X13_let else M_X1_init) else (if k < 484 then (if k = 483 then M_X13_row else M_X1_init) else (if k = 484 then M_X13_fill else M_X1_init))))))))) else (if k < 566 then (if k < 525 then (if k < 505 then (if k < 495 then (if k < 490 then (if k < 487 then (if k < 486 then (if k = 485 then M_X13_put else M_X1_init) else (if k = 486 then M_X13_one else M_X1_init)) else (if k < 488 then (if k = 487 then M_X13_copy else M_X1_init) else (if k < 489 then (if k = 488 then M_X13_weigh else M_X1_init) else (if k = 489 then M_X13_tellEx else M_X1_init)))) else (if k < 492 then (if k < 491 then (if k = 490 then M_X13_ex else M_X1_init) else (if k = 491 then M_X13_andPart else M_X1_init)) else (if k < 493 then (if k = 492 then M_X13_notPart else M_X1_init) else (if k < 494 then (if k = 493 then M_X13_relation else M_X1_init) else (if k = 494 then M_X13_sum else M_X1_init))))) else (if k < 500 then (if k < 497 then (if k < 496 then (if k = 495 then M_X13_product else M_X1_init) else (if k = 496 then M_X13_minus else M_X1_init)) else (if k < 498 then (if k = 497 then M_X13_atom else M_X1_init) else (if k < 499 then (if k = 498 then M_X13_numeralPart else M_X1_init) else (if k = 499 then M_X13_make else M_X1_init)))) else (if k < 502 then (if k < 501 then (if k = 500 then M_J23_bitCount else M_X1_init) else (if k = 501 then M_X13_fixedPart else M_X1_init)) else (if k < 503 then (if k = 502 then M_X13_variablePart else M_X1_init) else (if k < 504 then (if k = 503 then M_X13_worded else M_X1_init) else (if k = 504 then M_X13_rowed else M_X1_init)))))) else (if k < 515 then (if k < 510 then (if k < 507 then (if k < 506 then (if k = 505 then M_X13_differs else M_X1_init) else (if k = 506 then M_X13_sums else M_X1_init)) else (if k < 508 then (if k = 507 then M_X13_pair else M_X1_init) else (if k < 509 then (if k = 508 then M_X13_compared else M_X1_init) else (if k = 509 then M_X13_within else M_X1_init)))) else (if k < 512 then (if k < 511 then (if k = 510 then M_X13_pools else M_X1_init) else (if k = 511 then M_X13_orders else M_X1_init)) else (if k < 513 then (if k = 512 then M_X13_later else M_X1_init) else (if k < 514 then (if k = 513 then M_X13_isPair else M_X1_init) else (if k = 514 then M_X13_fault else M_X1_init))))) else (if k < 520 then (if k < 517 then (if k < 516 then (if k = 515 then M_X13_narrow else M_X1_init) else (if k = 516 then M_X13_counts else M_X1_init)) else (if k < 518 then (if k = 517 then M_X13_goesRound else M_X1_init) else (if k < 519 then (if k = 518 then M_X13_narrows else M_X1_init) else (if k = 519 then M_X13_forwards else M_X1_init)))) else (if k < 522 then (if k < 521 then (if k = 520 then M_X13_ofVariable else M_X1_init) else (if k = 521 then M_J23_numberOfTrailingZeros else M_X1_init)) else (if k < 523 then (if k = 522 then M_J23_numberOfLeadingZeros else M_X1_init) else (if k < 524 then (if k = 523 then M_J26_numberOfLeadingZeros else M_X1_init) else (if k = 524 then M_X13_ofNumber else M_X1_init))))))) else (if k < 545 then (if k < 535 then (if k < 530 then (if k < 527 then (if k < 526 then (if k = 525 then M_X13_gives_2 else M_X1_init) else (if k = 526 then M_X13_less else M_X1_init)) else (if k < 528 then (if k = 527 then M_X13_more else M_X1_init) else (if k < 529 then (if k = 528 then M_X13_reckon else M_X1_init) else (if k = 529 then M_X13_plus else M_X1_init)))) else (if k < 532 then (if k < 531 then (if k = 530 then M_X13_low else M_X1_init) else (if k = 531 then M_X13_down else M_X1_init)) else (if k < 533 then (if k = 532 then M_X13_up else M_X1_init) else (if k < 534 then (if k = 533 then M_X13_high else M_X1_init) else (if k = 534 then M_X13_minus_2 else M_X1_init))))) else (if k < 540 then (if k < 537 then (if k < 536 then (if k = 535 then M_X13_times else M_X1_init) else (if k = 536 then M_X13_product_2 else M_X1_init)) else (if k < 538 then (if k = 537 then M_X13_four else M_X1_init) else (if k < 539 then (if k = 538 then M_X13_by else M_X1_init) else (if k = 539 then M_X13_quotient else M_X1_init)))) else (if k < 542 then (if k < 541 then (if k = 540 then M_X13_isInfinite else M_X1_init) else (if k = 541 then M_X13_absolute else M_X1_init)) else (if k < 543 then (if k = 542 then M_X13_square else M_X1_init) else (if k < 544 then (if k = 543 then M_X13_root else M_X1_init) else (if k = 544 then M_X13_near else M_X1_init)))))) else (if k < 555 then (if k < 550 then (if k < 547 then (if k < 546 then (if k = 545 then M_X13_signOf else M_X1_init) else (if k = 546 then M_X13_ofTruth else M_X1_init)) else (if k < 548 then (if k = 547 then M_X13_turned else M_X1_init) else (if k < 549 then (if k = 548 then M_X13_alike else M_X1_init) else (if k = 549 then M_X13_truth else M_X1_init)))) else (if k < 552 then (if k < 551 then (if k = 550 then M_X13_isOne else M_X1_init) else (if k = 551 then M_X13_inSet else M_X1_init)) else (if k < 553 then (if k = 552 then M_X13_goes else M_X1_init) else (if k < 554 then (if k = 553 then M_X13_keepsDomain else M_X1_init) else (if k = 554 then M_X13_keepsBounds else M_X1_init))))) else (if k < 560 then (if k < 557 then (if k < 556 then (if k = 555 then M_X13_keepsMay else M_X1_init) else (if k = 556 then M_X13_narrowsIf else M_X1_init)) else (if k < 558 then (if k = 557 then M_X13_takes_2 else M_X1_init) else (if k < 559 then (if k = 558 then M_X13_meets else M_X1_init) else (if k = 559 then M_X13_keeps else M_X1_init)))) else (if k < 563 then (if k < 561 then (if k = 560 then M_X13_isShared else M_X1_init) else (if k < 562 then (if k = 561 then M_X13_narrowsNumber else M_X1_init) else (if k = 562 then M_X13_meets_2 else M_X1_init))) else (if k < 564 then (if k = 563 then M_X13_narrowsAbs else M_X1_init) else (if k < 565 then (if k = 564 then M_X13_narrowsTrue else M_X1_init) else (if k = 565 then M_X13_same else M_X1_init)))))))) else (if k < 606 then (if k < 586 then (if k < 576 then (if k < 571 then (if k < 568 then (if k < 567 then (if k = 566 then M_X13_unlike else M_X1_init) else (if k = 567 then M_X13_isOut else M_X1_init)) else (if k < 569 then (if k = 568 then M_X13_ordered else M_X1_init) else (if k < 570 then (if k = 569 then M_X13_inLeast else M_X1_init) else (if k = 570 then M_X13_narrowsFalse else M_X1_init)))) else (if k < 573 then (if k < 572 then (if k = 571 then M_X13_areOut else M_X1_init) else (if k = 572 then M_X13_isNarrower else M_X1_init)) else (if k < 574 then (if k = 573 then M_X13_tells else M_X1_init) else (if k < 575 then (if k = 574 then M_X13_end else M_X1_init) else (if k = 575 then M_X13_search else M_X1_init))))) else (if k < 581 then (if k < 578 then (if k < 577 then (if k = 576 then M_X13_push else M_X1_init) else (if k = 577 then M_X13_steps else M_X1_init)) else (if k < 579 then (if k = 578 then M_X13_step else M_X1_init) else (if k < 580 then (if k = 579 then M_X13_pop else M_X1_init) else (if k = 580 then M_X13_isFixed else M_X1_init)))) else (if k < 583 then (if k < 582 then (if k = 581 then M_X13_next else M_X1_init) else (if k = 582 then M_X13_splits else M_X1_init)) else (if k < 584 then (if k = 583 then M_X13_middle else M_X1_init) else (if k < 585 then (if k = 584 then M_X13_looksAgain else M_X1_init) else (if k = 585 then M_X13_keepsBest else M_X1_init)))))) else (if k < 596 then (if k < 591 then (if k < 588 then (if k < 587 then (if k = 586 then M_X13_look else M_X1_init) else (if k = 587 then M_X13_count else M_X1_init)) else (if k < 589 then (if k = 588 then M_X13_sort else M_X1_init) else (if k < 590 then (if k = 589 then M_X13_isVariable else M_X1_init) else (if k = 590 then M_X13_fails0 else M_X1_init)))) else (if k < 593 then (if k < 592 then (if k = 591 then M_X13_size else M_X1_init) else (if k = 592 then M_X13_sizeOf else M_X1_init)) else (if k < 594 then (if k = 593 then M_X13_thing else M_X1_init) else (if k < 595 then (if k = 594 then M_X13_thingOf else M_X1_init) else (if k = 595 then M_X13_bits else M_X1_init))))) else (if k < 601 then (if k < 598 then (if k < 597 then (if k = 596 then M_X13_row_2 else M_X1_init) else (if k = 597 then M_X13_weight else M_X1_init)) else (if k < 599 then (if k = 598 then M_X13_rule else M_X1_init) else (if k < 600 then (if k = 599 then M_X13_aim else M_X1_init) else (if k = 600 then M_X13_best else M_X1_init)))) else (if k < 603 then (if k < 602 then (if k = 601 then M_X1_statement else M_X1_init) else (if k = 602 then M_X4_over else M_X1_init)) else (if k < 604 then (if k = 603 then M_X4_rest else M_X1_init) else (if k < 605 then (if k = 604 then M_X4_placed else M_X1_init) else (if k = 605 then M_X4_hold else M_X1_init))))))) else (if k < 626 then (if k < 616 then (if k < 611 then (if k < 608 then (if k < 607 then (if k = 606 then M_X4_total else M_X1_init) else (if k = 607 then M_X4_sortOf else M_X1_init)) else (if k < 609 then (if k = 608 then M_X12_give else M_X1_init) else (if k < 610 then (if k = 609 then M_X8_give else M_X1_init) else (if k = 610 then M_X9_give else M_X1_init)))) else (if k < 613 then (if k < 612 then (if k = 611 then M_X11_give else M_X1_init) else (if k = 612 then M_X10_give else M_X1_init)) else (if k < 614 then (if k = 613 then M_X4_reals else M_X1_init) else (if k < 615 then (if k = 614 then M_X4_smalls else M_X1_init) else (if k = 615 then M_X4_wholes else M_X1_init))))) else (if k < 621 then (if k < 618 then (if k < 617 then (if k = 616 then M_X4_truths else M_X1_init) else (if k = 617 then M_X4_lettersOf else M_X1_init)) else (if k < 619 then (if k = 618 then M_X4_anys else M_X1_init) else (if k < 620 then (if k = 619 then M_X4_put else M_X1_init) else (if k = 620 then M_X4_copy else M_X1_init)))) else (if k < 623 then (if k < 622 then (if k = 621 then M_X3_narrow else M_X1_init) else (if k = 622 then M_X8_low else M_X1_init)) else (if k < 624 then (if k = 623 then M_X9_low else M_X1_init) else (if k < 625 then (if k = 624 then M_X10_low else M_X1_init) else (if k = 625 then M_X3_narrows else M_X1_init)))))) else (if k < 636 then (if k < 631 then (if k < 628 then (if k < 627 then (if k = 626 then M_X11_may else M_X1_init) else (if k = 627 then M_X12_letters else M_X1_init)) else (if k < 629 then (if k = 628 then M_X12_thing else M_X1_init) else (if k < 630 then (if k = 629 then M_X8_thing else M_X1_init) else (if k = 630 then M_X9_thing else M_X1_init)))) else (if k < 633 then (if k < 632 then (if k = 631 then M_X11_thing else M_X1_init) else (if k = 632 then M_X10_thing else M_X1_init)) else (if k < 634 then (if k = 633 then M_X3_step else M_X1_init) else (if k < 635 then (if k = 634 then M_X3_judged else M_X1_init) else (if k = 635 then M_X0_sort else M_X1_init))))) else (if k < 641 then (if k < 638 then (if k < 637 then (if k = 636 then M_X0_size else M_X1_init) else (if k = 637 then M_X0_thing else M_X1_init)) else (if k < 639 then (if k = 638 then M_X0_row else M_X1_init) else (if k < 640 then (if k = 639 then M_X1_row else M_X1_init) else (if k = 640 then M_X0_weight else M_X1_init)))) else (if k < 644 then (if k < 642 then (if k = 641 then M_X1_weight else M_X1_init) else (if k < 643 then (if k = 642 then M_X0_rule else M_X1_init) else (if k = 643 then M_X0_aim else M_X1_init))) else (if k < 645 then (if k = 644 then M_X0_best else M_X1_init) else (if k < 646 then (if k = 645 then M_X3_best else M_X1_init) else (if k = 646 then M_L_law else M_X1_init))))))))))
theorem mt_0 : mt 0 = M_X1_init := rfl
theorem o_X1_init : mown M_X1_init = 31 := rfl
theorem r_X1_init : mrt M_X1_init = 9 := rfl
theorem l_X1_init : mlc M_X1_init = 1 := rfl
theorem h_X1_init : mhh M_X1_init = [] := rfl
theorem mt_1 : mt 1 = M_J29_init := rfl
theorem o_J29_init : mown M_J29_init = 29 := rfl
theorem r_J29_init : mrt M_J29_init = 9 := rfl
theorem l_J29_init : mlc M_J29_init = 1 := rfl
theorem h_J29_init : mhh M_J29_init = [] := rfl
theorem mt_2 : mt 2 = M_X2_init := rfl
theorem o_X2_init : mown M_X2_init = 32 := rfl
theorem r_X2_init : mrt M_X2_init = 9 := rfl
theorem l_X2_init : mlc M_X2_init = 1 := rfl
theorem h_X2_init : mhh M_X2_init = [] := rfl
theorem mt_3 : mt 3 = M_X3_init := rfl
theorem o_X3_init : mown M_X3_init = 33 := rfl
theorem r_X3_init : mrt M_X3_init = 9 := rfl
theorem l_X3_init : mlc M_X3_init = 1 := rfl
theorem h_X3_init : mhh M_X3_init = [] := rfl
theorem mt_4 : mt 4 = M_X4_init := rfl
theorem o_X4_init : mown M_X4_init = 34 := rfl
theorem r_X4_init : mrt M_X4_init = 9 := rfl
theorem l_X4_init : mlc M_X4_init = 4 := rfl
theorem h_X4_init : mhh M_X4_init = [] := rfl
theorem mt_5 : mt 5 = M_J0_init := rfl
theorem o_J0_init : mown M_J0_init = 0 := rfl
theorem r_J0_init : mrt M_J0_init = 9 := rfl
theorem l_J0_init : mlc M_J0_init = 1 := rfl
theorem h_J0_init : mhh M_J0_init = [] := rfl
theorem mt_6 : mt 6 = M_X5_init := rfl
theorem o_X5_init : mown M_X5_init = 35 := rfl
theorem r_X5_init : mrt M_X5_init = 9 := rfl
theorem l_X5_init : mlc M_X5_init = 1 := rfl
theorem h_X5_init : mhh M_X5_init = [] := rfl
theorem mt_7 : mt 7 = M_J2_init := rfl
theorem o_J2_init : mown M_J2_init = 2 := rfl
theorem r_J2_init : mrt M_J2_init = 9 := rfl
theorem l_J2_init : mlc M_J2_init = 5 := rfl
theorem h_J2_init : mhh M_J2_init = [] := rfl
theorem mt_8 : mt 8 = M_J1_init := rfl
theorem o_J1_init : mown M_J1_init = 1 := rfl
theorem r_J1_init : mrt M_J1_init = 9 := rfl
theorem l_J1_init : mlc M_J1_init = 5 := rfl
theorem h_J1_init : mhh M_J1_init = [] := rfl
theorem mt_9 : mt 9 = M_J0_init_2 := rfl
theorem o_J0_init_2 : mown M_J0_init_2 = 0 := rfl
theorem r_J0_init_2 : mrt M_J0_init_2 = 9 := rfl
theorem l_J0_init_2 : mlc M_J0_init_2 = 5 := rfl
theorem h_J0_init_2 : mhh M_J0_init_2 = [] := rfl
theorem mt_10 : mt 10 = M_X4_variable := rfl
theorem o_X4_variable : mown M_X4_variable = 34 := rfl
theorem r_X4_variable : mrt M_X4_variable = 8 := rfl
theorem l_X4_variable : mlc M_X4_variable = 1 := rfl
theorem h_X4_variable : mhh M_X4_variable = [] := rfl
theorem mt_11 : mt 11 = M_X8_init := rfl
theorem o_X8_init : mown M_X8_init = 38 := rfl
theorem r_X8_init : mrt M_X8_init = 9 := rfl
theorem l_X8_init : mlc M_X8_init = 1 := rfl
theorem h_X8_init : mhh M_X8_init = [] := rfl
theorem mt_12 : mt 12 = M_X7_init := rfl
theorem o_X7_init : mown M_X7_init = 37 := rfl
theorem r_X7_init : mrt M_X7_init = 9 := rfl
theorem l_X7_init : mlc M_X7_init = 1 := rfl
theorem h_X7_init : mhh M_X7_init = [] := rfl
theorem mt_13 : mt 13 = M_X6_init := rfl
theorem o_X6_init : mown M_X6_init = 36 := rfl
theorem r_X6_init : mrt M_X6_init = 9 := rfl
theorem l_X6_init : mlc M_X6_init = 1 := rfl
theorem h_X6_init : mhh M_X6_init = [] := rfl
theorem mt_14 : mt 14 = M_X9_init := rfl
theorem o_X9_init : mown M_X9_init = 39 := rfl
theorem r_X9_init : mrt M_X9_init = 9 := rfl
theorem l_X9_init : mlc M_X9_init = 1 := rfl
theorem h_X9_init : mhh M_X9_init = [] := rfl
theorem mt_15 : mt 15 = M_X10_init := rfl
theorem o_X10_init : mown M_X10_init = 40 := rfl
theorem r_X10_init : mrt M_X10_init = 9 := rfl
theorem l_X10_init : mlc M_X10_init = 1 := rfl
theorem h_X10_init : mhh M_X10_init = [] := rfl
theorem mt_16 : mt 16 = M_X11_init := rfl
theorem o_X11_init : mown M_X11_init = 41 := rfl
theorem r_X11_init : mrt M_X11_init = 9 := rfl
theorem l_X11_init : mlc M_X11_init = 1 := rfl
theorem h_X11_init : mhh M_X11_init = [] := rfl
theorem mt_17 : mt 17 = M_X12_init := rfl
theorem o_X12_init : mown M_X12_init = 42 := rfl
theorem r_X12_init : mrt M_X12_init = 9 := rfl
theorem l_X12_init : mlc M_X12_init = 1 := rfl
theorem h_X12_init : mhh M_X12_init = [] := rfl
theorem mt_18 : mt 18 = M_X3_clear := rfl
theorem o_X3_clear : mown M_X3_clear = 33 := rfl
theorem r_X3_clear : mrt M_X3_clear = 10 := rfl
theorem l_X3_clear : mlc M_X3_clear = 1 := rfl
theorem h_X3_clear : mhh M_X3_clear = [] := rfl
theorem mt_19 : mt 19 = M_X3_zero := rfl
theorem o_X3_zero : mown M_X3_zero = 33 := rfl
theorem r_X3_zero : mrt M_X3_zero = 10 := rfl
theorem l_X3_zero : mlc M_X3_zero = 1 := rfl
theorem h_X3_zero : mhh M_X3_zero = [] := rfl
theorem mt_20 : mt 20 = M_X1_feed := rfl
theorem o_X1_feed : mown M_X1_feed = 31 := rfl
theorem r_X1_feed : mrt M_X1_feed = 0 := rfl
theorem l_X1_feed : mlc M_X1_feed = 8 := rfl
theorem h_X1_feed : mhh M_X1_feed = [] := rfl
theorem mt_21 : mt 21 = M_X1_tell := rfl
theorem o_X1_tell : mown M_X1_tell = 31 := rfl
theorem r_X1_tell : mrt M_X1_tell = 0 := rfl
theorem l_X1_tell : mlc M_X1_tell = 5 := rfl
theorem h_X1_tell : mhh M_X1_tell = [] := rfl
theorem mt_22 : mt 22 = M_X3_end := rfl
theorem o_X3_end : mown M_X3_end = 33 := rfl
theorem r_X3_end : mrt M_X3_end = 1 := rfl
theorem l_X3_end : mlc M_X3_end = 1 := rfl
theorem h_X3_end : mhh M_X3_end = [] := rfl
theorem mt_23 : mt 23 = M_X3_load := rfl
theorem o_X3_load : mown M_X3_load = 33 := rfl
theorem r_X3_load : mrt M_X3_load = 10 := rfl
theorem l_X3_load : mlc M_X3_load = 5 := rfl
theorem h_X3_load : mhh M_X3_load = [] := rfl
theorem mt_24 : mt 24 = M_X8_set := rfl
theorem o_X8_set : mown M_X8_set = 38 := rfl
theorem r_X8_set : mrt M_X8_set = 10 := rfl
theorem l_X8_set : mlc M_X8_set = 5 := rfl
theorem h_X8_set : mhh M_X8_set = [] := rfl
theorem mt_25 : mt 25 = M_X9_set := rfl
theorem o_X9_set : mown M_X9_set = 39 := rfl
theorem r_X9_set : mrt M_X9_set = 10 := rfl
theorem l_X9_set : mlc M_X9_set = 3 := rfl
theorem h_X9_set : mhh M_X9_set = [] := rfl
theorem mt_26 : mt 26 = M_X10_set := rfl
theorem o_X10_set : mown M_X10_set = 40 := rfl
theorem r_X10_set : mrt M_X10_set = 10 := rfl
theorem l_X10_set : mlc M_X10_set = 5 := rfl
theorem h_X10_set : mhh M_X10_set = [] := rfl
theorem mt_27 : mt 27 = M_X10_begin := rfl
theorem o_X10_begin : mown M_X10_begin = 40 := rfl
theorem r_X10_begin : mrt M_X10_begin = 10 := rfl
theorem l_X10_begin : mlc M_X10_begin = 1 := rfl
theorem h_X10_begin : mhh M_X10_begin = [] := rfl
theorem mt_28 : mt 28 = M_X11_set := rfl
theorem o_X11_set : mown M_X11_set = 41 := rfl
theorem r_X11_set : mrt M_X11_set = 10 := rfl
theorem l_X11_set : mlc M_X11_set = 3 := rfl
theorem h_X11_set : mhh M_X11_set = [] := rfl
theorem mt_29 : mt 29 = M_X12_set := rfl
theorem o_X12_set : mown M_X12_set = 42 := rfl
theorem r_X12_set : mrt M_X12_set = 10 := rfl
theorem l_X12_set : mlc M_X12_set = 5 := rfl
theorem h_X12_set : mhh M_X12_set = [] := rfl
theorem mt_30 : mt 30 = M_X12_begin := rfl
theorem o_X12_begin : mown M_X12_begin = 42 := rfl
theorem r_X12_begin : mrt M_X12_begin = 10 := rfl
theorem l_X12_begin : mlc M_X12_begin = 1 := rfl
theorem h_X12_begin : mhh M_X12_begin = [] := rfl
theorem mt_31 : mt 31 = M_X2_begin := rfl
theorem o_X2_begin : mown M_X2_begin = 32 := rfl
theorem r_X2_begin : mrt M_X2_begin = 10 := rfl
theorem l_X2_begin : mlc M_X2_begin = 2 := rfl
theorem h_X2_begin : mhh M_X2_begin = [] := rfl
theorem mt_32 : mt 32 = M_X2_next := rfl
theorem o_X2_next : mown M_X2_next = 32 := rfl
theorem r_X2_next : mrt M_X2_next = 10 := rfl
theorem l_X2_next : mlc M_X2_next = 2 := rfl
theorem h_X2_next : mhh M_X2_next = [] := rfl
theorem mt_33 : mt 33 = M_X2_byteAt := rfl
theorem o_X2_byteAt : mown M_X2_byteAt = 32 := rfl
theorem r_X2_byteAt : mrt M_X2_byteAt = 0 := rfl
theorem l_X2_byteAt : mlc M_X2_byteAt = 2 := rfl
theorem h_X2_byteAt : mhh M_X2_byteAt = [] := rfl
theorem mt_34 : mt 34 = M_X2_isLetter := rfl
theorem o_X2_isLetter : mown M_X2_isLetter = 32 := rfl
theorem r_X2_isLetter : mrt M_X2_isLetter = 1 := rfl
theorem l_X2_isLetter : mlc M_X2_isLetter = 1 := rfl
theorem h_X2_isLetter : mhh M_X2_isLetter = [] := rfl
theorem mt_35 : mt 35 = M_X2_word := rfl
theorem o_X2_word : mown M_X2_word = 32 := rfl
theorem r_X2_word : mrt M_X2_word = 10 := rfl
theorem l_X2_word : mlc M_X2_word = 2 := rfl
theorem h_X2_word : mhh M_X2_word = [] := rfl
theorem mt_36 : mt 36 = M_X2_isDigit := rfl
theorem o_X2_isDigit : mown M_X2_isDigit = 32 := rfl
theorem r_X2_isDigit : mrt M_X2_isDigit = 1 := rfl
theorem l_X2_isDigit : mlc M_X2_isDigit = 1 := rfl
theorem h_X2_isDigit : mhh M_X2_isDigit = [] := rfl
theorem mt_37 : mt 37 = M_X2_are := rfl
theorem o_X2_are : mown M_X2_are = 32 := rfl
theorem r_X2_are : mrt M_X2_are = 1 := rfl
theorem l_X2_are : mlc M_X2_are = 6 := rfl
theorem h_X2_are : mhh M_X2_are = [] := rfl
theorem mt_38 : mt 38 = M_J3_length := rfl
theorem o_J3_length : mown M_J3_length = 3 := rfl
theorem r_J3_length : mrt M_J3_length = 0 := rfl
theorem l_J3_length : mlc M_J3_length = 1 := rfl
theorem h_J3_length : mhh M_J3_length = [] := rfl
theorem mt_39 : mt 39 = M_J3_coder := rfl
theorem o_J3_coder : mown M_J3_coder = 3 := rfl
theorem r_J3_coder : mrt M_J3_coder = 2 := rfl
theorem l_J3_coder : mlc M_J3_coder = 1 := rfl
theorem h_J3_coder : mhh M_J3_coder = [] := rfl
theorem mt_40 : mt 40 = M_J3_charAt := rfl
theorem o_J3_charAt : mown M_J3_charAt = 3 := rfl
theorem r_J3_charAt : mrt M_J3_charAt = 3 := rfl
theorem l_J3_charAt : mlc M_J3_charAt = 2 := rfl
theorem h_J3_charAt : mhh M_J3_charAt = [] := rfl
theorem mt_41 : mt 41 = M_J3_isLatin1 := rfl
theorem o_J3_isLatin1 : mown M_J3_isLatin1 = 3 := rfl
theorem r_J3_isLatin1 : mrt M_J3_isLatin1 = 1 := rfl
theorem l_J3_isLatin1 : mlc M_J3_isLatin1 = 1 := rfl
theorem h_J3_isLatin1 : mhh M_J3_isLatin1 = [] := rfl
theorem mt_42 : mt 42 = M_J4_charAt := rfl
theorem o_J4_charAt : mown M_J4_charAt = 4 := rfl
theorem r_J4_charAt : mrt M_J4_charAt = 3 := rfl
theorem l_J4_charAt : mlc M_J4_charAt = 2 := rfl
theorem h_J4_charAt : mhh M_J4_charAt = [] := rfl
theorem mt_43 : mt 43 = M_J3_checkIndex := rfl
theorem o_J3_checkIndex : mown M_J3_checkIndex = 3 := rfl
theorem r_J3_checkIndex : mrt M_J3_checkIndex = 10 := rfl
theorem l_J3_checkIndex : mlc M_J3_checkIndex = 2 := rfl
theorem h_J3_checkIndex : mhh M_J3_checkIndex = [] := rfl
theorem mt_44 : mt 44 = M_J5_checkIndex := rfl
theorem o_J5_checkIndex : mown M_J5_checkIndex = 5 := rfl
theorem r_J5_checkIndex : mrt M_J5_checkIndex = 0 := rfl
theorem l_J5_checkIndex : mlc M_J5_checkIndex = 3 := rfl
theorem h_J5_checkIndex : mhh M_J5_checkIndex = [] := rfl
theorem mt_45 : mt 45 = M_J6_charAt := rfl
theorem o_J6_charAt : mown M_J6_charAt = 6 := rfl
theorem r_J6_charAt : mrt M_J6_charAt = 3 := rfl
theorem l_J6_charAt : mlc M_J6_charAt = 2 := rfl
theorem h_J6_charAt : mhh M_J6_charAt = [] := rfl
theorem mt_46 : mt 46 = M_J6_checkIndex := rfl
theorem o_J6_checkIndex : mown M_J6_checkIndex = 6 := rfl
theorem r_J6_checkIndex : mrt M_J6_checkIndex = 10 := rfl
theorem l_J6_checkIndex : mlc M_J6_checkIndex = 2 := rfl
theorem h_J6_checkIndex : mhh M_J6_checkIndex = [] := rfl
theorem mt_47 : mt 47 = M_J6_length := rfl
theorem o_J6_length : mown M_J6_length = 6 := rfl
theorem r_J6_length : mrt M_J6_length = 0 := rfl
theorem l_J6_length : mlc M_J6_length = 1 := rfl
theorem h_J6_length : mhh M_J6_length = [] := rfl
theorem mt_48 : mt 48 = M_J6_getChar := rfl
theorem o_J6_getChar : mown M_J6_getChar = 6 := rfl
theorem r_J6_getChar : mrt M_J6_getChar = 3 := rfl
theorem l_J6_getChar : mlc M_J6_getChar = 2 := rfl
theorem h_J6_getChar : mhh M_J6_getChar = [] := rfl
theorem mt_49 : mt 49 = M_X2_numeral := rfl
theorem o_X2_numeral : mown M_X2_numeral = 32 := rfl
theorem r_X2_numeral : mrt M_X2_numeral = 10 := rfl
theorem l_X2_numeral : mlc M_X2_numeral = 6 := rfl
theorem h_X2_numeral : mhh M_X2_numeral = [] := rfl
theorem mt_50 : mt 50 = M_X2_quoted := rfl
theorem o_X2_quoted : mown M_X2_quoted = 32 := rfl
theorem r_X2_quoted : mrt M_X2_quoted = 10 := rfl
theorem l_X2_quoted : mlc M_X2_quoted = 3 := rfl
theorem h_X2_quoted : mhh M_X2_quoted = [] := rfl
theorem mt_51 : mt 51 = M_X2_sign := rfl
theorem o_X2_sign : mown M_X2_sign = 32 := rfl
theorem r_X2_sign : mrt M_X2_sign = 10 := rfl
theorem l_X2_sign : mlc M_X2_sign = 6 := rfl
theorem h_X2_sign : mhh M_X2_sign = [] := rfl
theorem mt_52 : mt 52 = M_X2_hasEnded := rfl
theorem o_X2_hasEnded : mown M_X2_hasEnded = 32 := rfl
theorem r_X2_hasEnded : mrt M_X2_hasEnded = 1 := rfl
theorem l_X2_hasEnded : mlc M_X2_hasEnded = 1 := rfl
theorem h_X2_hasEnded : mhh M_X2_hasEnded = [] := rfl
theorem mt_53 : mt 53 = M_X2_place := rfl
theorem o_X2_place : mown M_X2_place = 32 := rfl
theorem r_X2_place : mrt M_X2_place = 0 := rfl
theorem l_X2_place : mlc M_X2_place = 1 := rfl
theorem h_X2_place : mhh M_X2_place = [] := rfl
theorem mt_54 : mt 54 = M_X2_statement := rfl
theorem o_X2_statement : mown M_X2_statement = 32 := rfl
theorem r_X2_statement : mrt M_X2_statement = 10 := rfl
theorem l_X2_statement : mlc M_X2_statement = 2 := rfl
theorem h_X2_statement : mhh M_X2_statement = [] := rfl
theorem mt_55 : mt 55 = M_X2_name := rfl
theorem o_X2_name : mown M_X2_name = 32 := rfl
theorem r_X2_name : mrt M_X2_name = 0 := rfl
theorem l_X2_name : mlc M_X2_name = 2 := rfl
theorem h_X2_name : mhh M_X2_name = [] := rfl
theorem mt_56 : mt 56 = M_X2_need := rfl
theorem o_X2_need : mown M_X2_need = 32 := rfl
theorem r_X2_need : mrt M_X2_need = 10 := rfl
theorem l_X2_need : mlc M_X2_need = 2 := rfl
theorem h_X2_need : mhh M_X2_need = [] := rfl
theorem mt_57 : mt 57 = M_X2_pass := rfl
theorem o_X2_pass : mown M_X2_pass = 32 := rfl
theorem r_X2_pass : mrt M_X2_pass = 10 := rfl
theorem l_X2_pass : mlc M_X2_pass = 1 := rfl
theorem h_X2_pass : mhh M_X2_pass = [] := rfl
theorem mt_58 : mt 58 = M_X2_must := rfl
theorem o_X2_must : mown M_X2_must = 32 := rfl
theorem r_X2_must : mrt M_X2_must = 10 := rfl
theorem l_X2_must : mlc M_X2_must = 2 := rfl
theorem h_X2_must : mhh M_X2_must = [] := rfl
theorem mt_59 : mt 59 = M_X2_takes := rfl
theorem o_X2_takes : mown M_X2_takes = 32 := rfl
theorem r_X2_takes : mrt M_X2_takes = 1 := rfl
theorem l_X2_takes : mlc M_X2_takes = 3 := rfl
theorem h_X2_takes : mhh M_X2_takes = [] := rfl
theorem mt_60 : mt 60 = M_X2_isSign := rfl
theorem o_X2_isSign : mown M_X2_isSign = 32 := rfl
theorem r_X2_isSign : mrt M_X2_isSign = 1 := rfl
theorem l_X2_isSign : mlc M_X2_isSign = 2 := rfl
theorem h_X2_isSign : mhh M_X2_isSign = [] := rfl
theorem mt_61 : mt 61 = M_X2_put := rfl
theorem o_X2_put : mown M_X2_put = 32 := rfl
theorem r_X2_put : mrt M_X2_put = 10 := rfl
theorem l_X2_put : mlc M_X2_put = 3 := rfl
theorem h_X2_put : mhh M_X2_put = [] := rfl
theorem mt_62 : mt 62 = M_X2_value := rfl
theorem o_X2_value : mown M_X2_value = 32 := rfl
theorem r_X2_value : mrt M_X2_value = 10 := rfl
theorem l_X2_value : mlc M_X2_value = 1 := rfl
theorem h_X2_value : mhh M_X2_value = [] := rfl
theorem mt_63 : mt 63 = M_X2_range := rfl
theorem o_X2_range : mown M_X2_range = 32 := rfl
theorem r_X2_range : mrt M_X2_range = 10 := rfl
theorem l_X2_range : mlc M_X2_range = 1 := rfl
theorem h_X2_range : mhh M_X2_range = [] := rfl
theorem mt_64 : mt 64 = M_X2_bound := rfl
theorem o_X2_bound : mown M_X2_bound = 32 := rfl
theorem r_X2_bound : mrt M_X2_bound = 10 := rfl
theorem l_X2_bound : mlc M_X2_bound = 2 := rfl
theorem h_X2_bound : mhh M_X2_bound = [] := rfl
theorem mt_65 : mt 65 = M_X14_plain := rfl
theorem o_X14_plain : mown M_X14_plain = 44 := rfl
theorem r_X14_plain : mrt M_X14_plain = 7 := rfl
theorem l_X14_plain : mlc M_X14_plain = 2 := rfl
theorem h_X14_plain : mhh M_X14_plain = [] := rfl
theorem mt_66 : mt 66 = M_X2_numeralAt := rfl
theorem o_X2_numeralAt : mown M_X2_numeralAt = 32 := rfl
theorem r_X2_numeralAt : mrt M_X2_numeralAt = 0 := rfl
theorem l_X2_numeralAt : mlc M_X2_numeralAt = 3 := rfl
theorem h_X2_numeralAt : mhh M_X2_numeralAt = [] := rfl
theorem mt_67 : mt 67 = M_X2_set := rfl
theorem o_X2_set : mown M_X2_set = 32 := rfl
theorem r_X2_set : mrt M_X2_set = 0 := rfl
theorem l_X2_set : mlc M_X2_set = 2 := rfl
theorem h_X2_set : mhh M_X2_set = [] := rfl
theorem mt_68 : mt 68 = M_X2_cons := rfl
theorem o_X2_cons : mown M_X2_cons = 32 := rfl
theorem r_X2_cons : mrt M_X2_cons = 0 := rfl
theorem l_X2_cons : mlc M_X2_cons = 2 := rfl
theorem h_X2_cons : mhh M_X2_cons = [] := rfl
theorem mt_69 : mt 69 = M_X2_con := rfl
theorem o_X2_con : mown M_X2_con = 32 := rfl
theorem r_X2_con : mrt M_X2_con = 10 := rfl
theorem l_X2_con : mlc M_X2_con = 2 := rfl
theorem h_X2_con : mhh M_X2_con = [] := rfl
theorem mt_70 : mt 70 = M_X2_enter := rfl
theorem o_X2_enter : mown M_X2_enter = 32 := rfl
theorem r_X2_enter : mrt M_X2_enter = 10 := rfl
theorem l_X2_enter : mlc M_X2_enter = 1 := rfl
theorem h_X2_enter : mhh M_X2_enter = [] := rfl
theorem mt_71 : mt 71 = M_X2_product := rfl
theorem o_X2_product : mown M_X2_product = 32 := rfl
theorem r_X2_product : mrt M_X2_product = 10 := rfl
theorem l_X2_product : mlc M_X2_product = 2 := rfl
theorem h_X2_product : mhh M_X2_product = [] := rfl
theorem mt_72 : mt 72 = M_X2_single := rfl
theorem o_X2_single : mown M_X2_single = 32 := rfl
theorem r_X2_single : mrt M_X2_single = 10 := rfl
theorem l_X2_single : mlc M_X2_single = 3 := rfl
theorem h_X2_single : mhh M_X2_single = [] := rfl
theorem mt_73 : mt 73 = M_X2_isWord := rfl
theorem o_X2_isWord : mown M_X2_isWord = 32 := rfl
theorem r_X2_isWord : mrt M_X2_isWord = 1 := rfl
theorem l_X2_isWord : mlc M_X2_isWord = 2 := rfl
theorem h_X2_isWord : mhh M_X2_isWord = [] := rfl
theorem mt_74 : mt 74 = M_X2_worded := rfl
theorem o_X2_worded : mown M_X2_worded = 32 := rfl
theorem r_X2_worded : mrt M_X2_worded = 10 := rfl
theorem l_X2_worded : mlc M_X2_worded = 3 := rfl
theorem h_X2_worded : mhh M_X2_worded = [] := rfl
theorem mt_75 : mt 75 = M_X2_sortOf := rfl
theorem o_X2_sortOf : mown M_X2_sortOf = 32 := rfl
theorem r_X2_sortOf : mrt M_X2_sortOf = 0 := rfl
theorem l_X2_sortOf : mlc M_X2_sortOf = 1 := rfl
theorem h_X2_sortOf : mhh M_X2_sortOf = [] := rfl
theorem mt_76 : mt 76 = M_X2_row := rfl
theorem o_X2_row : mown M_X2_row = 32 := rfl
theorem r_X2_row : mrt M_X2_row = 10 := rfl
theorem l_X2_row : mlc M_X2_row = 3 := rfl
theorem h_X2_row : mhh M_X2_row = [] := rfl
theorem mt_77 : mt 77 = M_X2_place2 := rfl
theorem o_X2_place2 : mown M_X2_place2 = 32 := rfl
theorem r_X2_place2 : mrt M_X2_place2 = 10 := rfl
theorem l_X2_place2 : mlc M_X2_place2 = 2 := rfl
theorem h_X2_place2 : mhh M_X2_place2 = [] := rfl
theorem mt_78 : mt 78 = M_X2_takesWord := rfl
theorem o_X2_takesWord : mown M_X2_takesWord = 32 := rfl
theorem r_X2_takesWord : mrt M_X2_takesWord = 1 := rfl
theorem l_X2_takesWord : mlc M_X2_takesWord = 3 := rfl
theorem h_X2_takesWord : mhh M_X2_takesWord = [] := rfl
theorem mt_79 : mt 79 = M_X2_one := rfl
theorem o_X2_one : mown M_X2_one = 32 := rfl
theorem r_X2_one : mrt M_X2_one = 10 := rfl
theorem l_X2_one : mlc M_X2_one = 4 := rfl
theorem h_X2_one : mhh M_X2_one = [] := rfl
theorem mt_80 : mt 80 = M_X2_copy := rfl
theorem o_X2_copy : mown M_X2_copy = 32 := rfl
theorem r_X2_copy : mrt M_X2_copy = 10 := rfl
theorem l_X2_copy : mlc M_X2_copy = 3 := rfl
theorem h_X2_copy : mhh M_X2_copy = [] := rfl
theorem mt_81 : mt 81 = M_X2_ex := rfl
theorem o_X2_ex : mown M_X2_ex = 32 := rfl
theorem r_X2_ex : mrt M_X2_ex = 10 := rfl
theorem l_X2_ex : mlc M_X2_ex = 1 := rfl
theorem h_X2_ex : mhh M_X2_ex = [] := rfl
theorem mt_82 : mt 82 = M_X2_joined := rfl
theorem o_X2_joined : mown M_X2_joined = 32 := rfl
theorem r_X2_joined : mrt M_X2_joined = 10 := rfl
theorem l_X2_joined : mlc M_X2_joined = 1 := rfl
theorem h_X2_joined : mhh M_X2_joined = [] := rfl
theorem mt_83 : mt 83 = M_X2_both := rfl
theorem o_X2_both : mown M_X2_both = 32 := rfl
theorem r_X2_both : mrt M_X2_both = 10 := rfl
theorem l_X2_both : mlc M_X2_both = 1 := rfl
theorem h_X2_both : mhh M_X2_both = [] := rfl
theorem mt_84 : mt 84 = M_X2_denied := rfl
theorem o_X2_denied : mown M_X2_denied = 32 := rfl
theorem r_X2_denied : mrt M_X2_denied = 10 := rfl
theorem l_X2_denied : mlc M_X2_denied = 1 := rfl
theorem h_X2_denied : mhh M_X2_denied = [] := rfl
theorem mt_85 : mt 85 = M_X2_relation := rfl
theorem o_X2_relation : mown M_X2_relation = 32 := rfl
theorem r_X2_relation : mrt M_X2_relation = 10 := rfl
theorem l_X2_relation : mlc M_X2_relation = 3 := rfl
theorem h_X2_relation : mhh M_X2_relation = [] := rfl
theorem mt_86 : mt 86 = M_X2_sum := rfl
theorem o_X2_sum : mown M_X2_sum = 32 := rfl
theorem r_X2_sum : mrt M_X2_sum = 10 := rfl
theorem l_X2_sum : mlc M_X2_sum = 2 := rfl
theorem h_X2_sum : mhh M_X2_sum = [] := rfl
theorem mt_87 : mt 87 = M_X2_times := rfl
theorem o_X2_times : mown M_X2_times = 32 := rfl
theorem r_X2_times : mrt M_X2_times = 10 := rfl
theorem l_X2_times : mlc M_X2_times = 2 := rfl
theorem h_X2_times : mhh M_X2_times = [] := rfl
theorem mt_88 : mt 88 = M_X2_minus := rfl
theorem o_X2_minus : mown M_X2_minus = 32 := rfl
theorem r_X2_minus : mrt M_X2_minus = 10 := rfl
theorem l_X2_minus : mlc M_X2_minus = 1 := rfl
theorem h_X2_minus : mhh M_X2_minus = [] := rfl
theorem mt_89 : mt 89 = M_X2_atom := rfl
theorem o_X2_atom : mown M_X2_atom = 32 := rfl
theorem r_X2_atom : mrt M_X2_atom = 10 := rfl
theorem l_X2_atom : mlc M_X2_atom = 1 := rfl
theorem h_X2_atom : mhh M_X2_atom = [] := rfl
theorem mt_90 : mt 90 = M_X2_call := rfl
theorem o_X2_call : mown M_X2_call = 32 := rfl
theorem r_X2_call : mrt M_X2_call = 10 := rfl
theorem l_X2_call : mlc M_X2_call = 3 := rfl
theorem h_X2_call : mhh M_X2_call = [] := rfl
theorem mt_91 : mt 91 = M_X2_among := rfl
theorem o_X2_among : mown M_X2_among = 32 := rfl
theorem r_X2_among : mrt M_X2_among = 10 := rfl
theorem l_X2_among : mlc M_X2_among = 1 := rfl
theorem h_X2_among : mhh M_X2_among = [] := rfl
theorem mt_92 : mt 92 = M_X4_run := rfl
theorem o_X4_run : mown M_X4_run = 34 := rfl
theorem r_X4_run : mrt M_X4_run = 10 := rfl
theorem l_X4_run : mlc M_X4_run = 4 := rfl
theorem h_X4_run : mhh M_X4_run = [] := rfl
theorem mt_93 : mt 93 = M_X4_reckon := rfl
theorem o_X4_reckon : mown M_X4_reckon = 34 := rfl
theorem r_X4_reckon : mrt M_X4_reckon = 10 := rfl
theorem l_X4_reckon : mlc M_X4_reckon = 5 := rfl
theorem h_X4_reckon : mhh M_X4_reckon = [] := rfl
theorem mt_94 : mt 94 = M_X4_push := rfl
theorem o_X4_push : mown M_X4_push = 34 := rfl
theorem r_X4_push : mrt M_X4_push = 10 := rfl
theorem l_X4_push : mlc M_X4_push = 2 := rfl
theorem h_X4_push : mhh M_X4_push = [] := rfl
theorem mt_95 : mt 95 = M_X4_number := rfl
theorem o_X4_number : mown M_X4_number = 34 := rfl
theorem r_X4_number : mrt M_X4_number = 0 := rfl
theorem l_X4_number : mlc M_X4_number = 3 := rfl
theorem h_X4_number : mhh M_X4_number = [] := rfl
theorem mt_96 : mt 96 = M_X4_find := rfl
theorem o_X4_find : mown M_X4_find = 34 := rfl
theorem r_X4_find : mrt M_X4_find = 0 := rfl
theorem l_X4_find : mlc M_X4_find = 4 := rfl
theorem h_X4_find : mhh M_X4_find = [] := rfl
theorem mt_97 : mt 97 = M_X2_length := rfl
theorem o_X2_length : mown M_X2_length = 32 := rfl
theorem r_X2_length : mrt M_X2_length = 0 := rfl
theorem l_X2_length : mlc M_X2_length = 3 := rfl
theorem h_X2_length : mhh M_X2_length = [] := rfl
theorem mt_98 : mt 98 = M_X5_of := rfl
theorem o_X5_of : mown M_X5_of = 35 := rfl
theorem r_X5_of : mrt M_X5_of = 8 := rfl
theorem l_X5_of : mlc M_X5_of = 2 := rfl
theorem h_X5_of : mhh M_X5_of = [] := rfl
theorem mt_99 : mt 99 = M_J7_init := rfl
theorem o_J7_init : mown M_J7_init = 7 := rfl
theorem r_J7_init : mrt M_J7_init = 9 := rfl
theorem l_J7_init : mlc M_J7_init = 2 := rfl
theorem h_J7_init : mhh M_J7_init = [] := rfl
theorem mt_100 : mt 100 = M_J2_init_2 := rfl
theorem o_J2_init_2 : mown M_J2_init_2 = 2 := rfl
theorem r_J2_init_2 : mrt M_J2_init_2 = 9 := rfl
theorem l_J2_init_2 : mlc M_J2_init_2 = 2 := rfl
theorem h_J2_init_2 : mhh M_J2_init_2 = [] := rfl
theorem mt_101 : mt 101 = M_J1_init_2 := rfl
theorem o_J1_init_2 : mown M_J1_init_2 = 1 := rfl
theorem r_J1_init_2 : mrt M_J1_init_2 = 9 := rfl
theorem l_J1_init_2 : mlc M_J1_init_2 = 2 := rfl
theorem h_J1_init_2 : mhh M_J1_init_2 = [] := rfl
theorem mt_102 : mt 102 = M_J0_init_3 := rfl
theorem o_J0_init_3 : mown M_J0_init_3 = 0 := rfl
theorem r_J0_init_3 : mrt M_J0_init_3 = 9 := rfl
theorem l_J0_init_3 : mlc M_J0_init_3 = 2 := rfl
theorem h_J0_init_3 : mhh M_J0_init_3 = [] := rfl
theorem mt_103 : mt 103 = M_X4_simple := rfl
theorem o_X4_simple : mown M_X4_simple = 34 := rfl
theorem r_X4_simple : mrt M_X4_simple = 0 := rfl
theorem l_X4_simple : mlc M_X4_simple = 5 := rfl
theorem h_X4_simple : mhh M_X4_simple = [] := rfl
theorem mt_104 : mt 104 = M_X4_set := rfl
theorem o_X4_set : mown M_X4_set = 34 := rfl
theorem r_X4_set : mrt M_X4_set = 8 := rfl
theorem l_X4_set : mlc M_X4_set = 4 := rfl
theorem h_X4_set : mhh M_X4_set = [] := rfl
theorem mt_105 : mt 105 = M_X4_letters := rfl
theorem o_X4_letters : mown M_X4_letters = 34 := rfl
theorem r_X4_letters : mrt M_X4_letters = 8 := rfl
theorem l_X4_letters : mlc M_X4_letters = 5 := rfl
theorem h_X4_letters : mhh M_X4_letters = [] := rfl
theorem mt_106 : mt 106 = M_X4_plain := rfl
theorem o_X4_plain : mown M_X4_plain = 34 := rfl
theorem r_X4_plain : mrt M_X4_plain = 8 := rfl
theorem l_X4_plain : mlc M_X4_plain = 3 := rfl
theorem h_X4_plain : mhh M_X4_plain = [] := rfl
theorem mt_107 : mt 107 = M_J9_init := rfl
theorem o_J9_init : mown M_J9_init = 9 := rfl
theorem r_J9_init : mrt M_J9_init = 9 := rfl
theorem l_J9_init : mlc M_J9_init = 2 := rfl
theorem h_J9_init : mhh M_J9_init = [] := rfl
theorem mt_108 : mt 108 = M_J8_init := rfl
theorem o_J8_init : mown M_J8_init = 8 := rfl
theorem r_J8_init : mrt M_J8_init = 9 := rfl
theorem l_J8_init : mlc M_J8_init = 2 := rfl
theorem h_J8_init : mhh M_J8_init = [] := rfl
theorem mt_109 : mt 109 = M_J10_init := rfl
theorem o_J10_init : mown M_J10_init = 10 := rfl
theorem r_J10_init : mrt M_J10_init = 9 := rfl
theorem l_J10_init : mlc M_J10_init = 1 := rfl
theorem h_J10_init : mhh M_J10_init = [] := rfl
theorem mt_110 : mt 110 = M_J2_init_3 := rfl
theorem o_J2_init_3 : mown M_J2_init_3 = 2 := rfl
theorem r_J2_init_3 : mrt M_J2_init_3 = 9 := rfl
theorem l_J2_init_3 : mlc M_J2_init_3 = 1 := rfl
theorem h_J2_init_3 : mhh M_J2_init_3 = [] := rfl
theorem mt_111 : mt 111 = M_J1_init_3 := rfl
theorem o_J1_init_3 : mown M_J1_init_3 = 1 := rfl
theorem r_J1_init_3 : mrt M_J1_init_3 = 9 := rfl
theorem l_J1_init_3 : mlc M_J1_init_3 = 1 := rfl
theorem h_J1_init_3 : mhh M_J1_init_3 = [] := rfl
theorem mt_112 : mt 112 = M_X4_express := rfl
theorem o_X4_express : mown M_X4_express = 34 := rfl
theorem r_X4_express : mrt M_X4_express = 0 := rfl
theorem l_X4_express : mlc M_X4_express = 8 := rfl
theorem h_X4_express : mhh M_X4_express = [] := rfl
theorem mt_113 : mt 113 = M_X4_constant := rfl
theorem o_X4_constant : mown M_X4_constant = 34 := rfl
theorem r_X4_constant : mrt M_X4_constant = 10 := rfl
theorem l_X4_constant : mlc M_X4_constant = 3 := rfl
theorem h_X4_constant : mhh M_X4_constant = [] := rfl
theorem mt_114 : mt 114 = M_X4_counts := rfl
theorem o_X4_counts : mown M_X4_counts = 34 := rfl
theorem r_X4_counts : mrt M_X4_counts = 10 := rfl
theorem l_X4_counts : mlc M_X4_counts = 1 := rfl
theorem h_X4_counts : mhh M_X4_counts = [] := rfl
theorem mt_115 : mt 115 = M_X16_init := rfl
theorem o_X16_init : mown M_X16_init = 46 := rfl
theorem r_X16_init : mrt M_X16_init = 9 := rfl
theorem l_X16_init : mlc M_X16_init = 6 := rfl
theorem h_X16_init : mhh M_X16_init = [] := rfl
theorem mt_116 : mt 116 = M_X15_init := rfl
theorem o_X15_init : mown M_X15_init = 45 := rfl
theorem r_X15_init : mrt M_X15_init = 9 := rfl
theorem l_X15_init : mlc M_X15_init = 1 := rfl
theorem h_X15_init : mhh M_X15_init = [] := rfl
theorem mt_117 : mt 117 = M_X4_part := rfl
theorem o_X4_part : mown M_X4_part = 34 := rfl
theorem r_X4_part : mrt M_X4_part = 10 := rfl
theorem l_X4_part : mlc M_X4_part = 2 := rfl
theorem h_X4_part : mhh M_X4_part = [] := rfl
theorem mt_118 : mt 118 = M_X4_truth := rfl
theorem o_X4_truth : mown M_X4_truth = 34 := rfl
theorem r_X4_truth : mrt M_X4_truth = 10 := rfl
theorem l_X4_truth : mlc M_X4_truth = 2 := rfl
theorem h_X4_truth : mhh M_X4_truth = [] := rfl
theorem mt_119 : mt 119 = M_X4_sorts := rfl
theorem o_X4_sorts : mown M_X4_sorts = 34 := rfl
theorem r_X4_sorts : mrt M_X4_sorts = 10 := rfl
theorem l_X4_sorts : mlc M_X4_sorts = 2 := rfl
theorem h_X4_sorts : mhh M_X4_sorts = [] := rfl
theorem mt_120 : mt 120 = M_X4_named := rfl
theorem o_X4_named : mown M_X4_named = 34 := rfl
theorem r_X4_named : mrt M_X4_named = 10 := rfl
theorem l_X4_named : mlc M_X4_named = 3 := rfl
theorem h_X4_named : mhh M_X4_named = [] := rfl
theorem mt_121 : mt 121 = M_X4_leaf := rfl
theorem o_X4_leaf : mown M_X4_leaf = 34 := rfl
theorem r_X4_leaf : mrt M_X4_leaf = 10 := rfl
theorem l_X4_leaf : mlc M_X4_leaf = 2 := rfl
theorem h_X4_leaf : mhh M_X4_leaf = [] := rfl
theorem mt_122 : mt 122 = M_X17_init := rfl
theorem o_X17_init : mown M_X17_init = 47 := rfl
theorem r_X17_init : mrt M_X17_init = 9 := rfl
theorem l_X17_init : mlc M_X17_init = 2 := rfl
theorem h_X17_init : mhh M_X17_init = [] := rfl
theorem mt_123 : mt 123 = M_X4_taken := rfl
theorem o_X4_taken : mown M_X4_taken = 34 := rfl
theorem r_X4_taken : mrt M_X4_taken = 8 := rfl
theorem l_X4_taken : mlc M_X4_taken = 1 := rfl
theorem h_X4_taken : mhh M_X4_taken = [] := rfl
theorem mt_124 : mt 124 = M_X31_sort := rfl
theorem o_X31_sort : mown M_X31_sort = 61 := rfl
theorem r_X31_sort : mrt M_X31_sort = 0 := rfl
theorem l_X31_sort : mlc M_X31_sort = 1 := rfl
theorem h_X31_sort : mhh M_X31_sort = [] := rfl
theorem mt_125 : mt 125 = M_X37_sort := rfl
theorem o_X37_sort : mown M_X37_sort = 67 := rfl
theorem r_X37_sort : mrt M_X37_sort = 0 := rfl
theorem l_X37_sort : mlc M_X37_sort = 1 := rfl
theorem h_X37_sort : mhh M_X37_sort = [] := rfl
theorem mt_126 : mt 126 = M_X16_sort := rfl
theorem o_X16_sort : mown M_X16_sort = 46 := rfl
theorem r_X16_sort : mrt M_X16_sort = 0 := rfl
theorem l_X16_sort : mlc M_X16_sort = 1 := rfl
theorem h_X16_sort : mhh M_X16_sort = [] := rfl
theorem mt_127 : mt 127 = M_X24_sort := rfl
theorem o_X24_sort : mown M_X24_sort = 54 := rfl
theorem r_X24_sort : mrt M_X24_sort = 0 := rfl
theorem l_X24_sort : mlc M_X24_sort = 1 := rfl
theorem h_X24_sort : mhh M_X24_sort = [] := rfl
theorem mt_128 : mt 128 = M_X17_sort := rfl
theorem o_X17_sort : mown M_X17_sort = 47 := rfl
theorem r_X17_sort : mrt M_X17_sort = 0 := rfl
theorem l_X17_sort : mlc M_X17_sort = 1 := rfl
theorem h_X17_sort : mhh M_X17_sort = [] := rfl
theorem mt_129 : mt 129 = M_X12_sort := rfl
theorem o_X12_sort : mown M_X12_sort = 42 := rfl
theorem r_X12_sort : mrt M_X12_sort = 0 := rfl
theorem l_X12_sort : mlc M_X12_sort = 1 := rfl
theorem h_X12_sort : mhh M_X12_sort = [] := rfl
theorem mt_130 : mt 130 = M_X8_sort := rfl
theorem o_X8_sort : mown M_X8_sort = 38 := rfl
theorem r_X8_sort : mrt M_X8_sort = 0 := rfl
theorem l_X8_sort : mlc M_X8_sort = 1 := rfl
theorem h_X8_sort : mhh M_X8_sort = [] := rfl
theorem mt_131 : mt 131 = M_X9_sort := rfl
theorem o_X9_sort : mown M_X9_sort = 39 := rfl
theorem r_X9_sort : mrt M_X9_sort = 0 := rfl
theorem l_X9_sort : mlc M_X9_sort = 1 := rfl
theorem h_X9_sort : mhh M_X9_sort = [] := rfl
theorem mt_132 : mt 132 = M_X11_sort := rfl
theorem o_X11_sort : mown M_X11_sort = 41 := rfl
theorem r_X11_sort : mrt M_X11_sort = 0 := rfl
theorem l_X11_sort : mlc M_X11_sort = 1 := rfl
theorem h_X11_sort : mhh M_X11_sort = [] := rfl
theorem mt_133 : mt 133 = M_X10_sort := rfl
theorem o_X10_sort : mown M_X10_sort = 40 := rfl
theorem r_X10_sort : mrt M_X10_sort = 0 := rfl
theorem l_X10_sort : mlc M_X10_sort = 1 := rfl
theorem h_X10_sort : mhh M_X10_sort = [] := rfl
theorem mt_134 : mt 134 = M_X18_sort := rfl
theorem o_X18_sort : mown M_X18_sort = 48 := rfl
theorem r_X18_sort : mrt M_X18_sort = 0 := rfl
theorem l_X18_sort : mlc M_X18_sort = 1 := rfl
theorem h_X18_sort : mhh M_X18_sort = [] := rfl
theorem mt_135 : mt 135 = M_X19_init := rfl
theorem o_X19_init : mown M_X19_init = 49 := rfl
theorem r_X19_init : mrt M_X19_init = 9 := rfl
theorem l_X19_init : mlc M_X19_init = 2 := rfl
theorem h_X19_init : mhh M_X19_init = [] := rfl
theorem mt_136 : mt 136 = M_X18_init := rfl
theorem o_X18_init : mown M_X18_init = 48 := rfl
theorem r_X18_init : mrt M_X18_init = 9 := rfl
theorem l_X18_init : mlc M_X18_init = 2 := rfl
theorem h_X18_init : mhh M_X18_init = [] := rfl
theorem mt_137 : mt 137 = M_X4_call := rfl
theorem o_X4_call : mown M_X4_call = 34 := rfl
theorem r_X4_call : mrt M_X4_call = 10 := rfl
theorem l_X4_call : mlc M_X4_call = 3 := rfl
theorem h_X4_call : mhh M_X4_call = [] := rfl
theorem mt_138 : mt 138 = M_X20_init := rfl
theorem o_X20_init : mown M_X20_init = 50 := rfl
theorem r_X20_init : mrt M_X20_init = 9 := rfl
theorem l_X20_init : mlc M_X20_init = 2 := rfl
theorem h_X20_init : mhh M_X20_init = [] := rfl
theorem mt_139 : mt 139 = M_X21_init := rfl
theorem o_X21_init : mown M_X21_init = 51 := rfl
theorem r_X21_init : mrt M_X21_init = 9 := rfl
theorem l_X21_init : mlc M_X21_init = 2 := rfl
theorem h_X21_init : mhh M_X21_init = [] := rfl
theorem mt_140 : mt 140 = M_X22_init := rfl
theorem o_X22_init : mown M_X22_init = 52 := rfl
theorem r_X22_init : mrt M_X22_init = 9 := rfl
theorem l_X22_init : mlc M_X22_init = 2 := rfl
theorem h_X22_init : mhh M_X22_init = [] := rfl
theorem mt_141 : mt 141 = M_X23_init := rfl
theorem o_X23_init : mown M_X23_init = 53 := rfl
theorem r_X23_init : mrt M_X23_init = 9 := rfl
theorem l_X23_init : mlc M_X23_init = 3 := rfl
theorem h_X23_init : mhh M_X23_init = [] := rfl
theorem mt_142 : mt 142 = M_X4_two := rfl
theorem o_X4_two : mown M_X4_two = 34 := rfl
theorem r_X4_two : mrt M_X4_two = 10 := rfl
theorem l_X4_two : mlc M_X4_two = 6 := rfl
theorem h_X4_two : mhh M_X4_two = [] := rfl
theorem mt_143 : mt 143 = M_X25_init := rfl
theorem o_X25_init : mown M_X25_init = 55 := rfl
theorem r_X25_init : mrt M_X25_init = 9 := rfl
theorem l_X25_init : mlc M_X25_init = 3 := rfl
theorem h_X25_init : mhh M_X25_init = [] := rfl
theorem mt_144 : mt 144 = M_X24_init := rfl
theorem o_X24_init : mown M_X24_init = 54 := rfl
theorem r_X24_init : mrt M_X24_init = 9 := rfl
theorem l_X24_init : mlc M_X24_init = 3 := rfl
theorem h_X24_init : mhh M_X24_init = [] := rfl
theorem mt_145 : mt 145 = M_X26_init := rfl
theorem o_X26_init : mown M_X26_init = 56 := rfl
theorem r_X26_init : mrt M_X26_init = 9 := rfl
theorem l_X26_init : mlc M_X26_init = 3 := rfl
theorem h_X26_init : mhh M_X26_init = [] := rfl
theorem mt_146 : mt 146 = M_X28_init := rfl
theorem o_X28_init : mown M_X28_init = 58 := rfl
theorem r_X28_init : mrt M_X28_init = 9 := rfl
theorem l_X28_init : mlc M_X28_init = 3 := rfl
theorem h_X28_init : mhh M_X28_init = [] := rfl
theorem mt_147 : mt 147 = M_X27_init := rfl
theorem o_X27_init : mown M_X27_init = 57 := rfl
theorem r_X27_init : mrt M_X27_init = 9 := rfl
theorem l_X27_init : mlc M_X27_init = 3 := rfl
theorem h_X27_init : mhh M_X27_init = [] := rfl
theorem mt_148 : mt 148 = M_X29_init := rfl
theorem o_X29_init : mown M_X29_init = 59 := rfl
theorem r_X29_init : mrt M_X29_init = 9 := rfl
theorem l_X29_init : mlc M_X29_init = 3 := rfl
theorem h_X29_init : mhh M_X29_init = [] := rfl
theorem mt_149 : mt 149 = M_X30_init := rfl
theorem o_X30_init : mown M_X30_init = 60 := rfl
theorem r_X30_init : mrt M_X30_init = 9 := rfl
theorem l_X30_init : mlc M_X30_init = 4 := rfl
theorem h_X30_init : mhh M_X30_init = [] := rfl
theorem mt_150 : mt 150 = M_X33_init := rfl
theorem o_X33_init : mown M_X33_init = 63 := rfl
theorem r_X33_init : mrt M_X33_init = 9 := rfl
theorem l_X33_init : mlc M_X33_init = 4 := rfl
theorem h_X33_init : mhh M_X33_init = [] := rfl
theorem mt_151 : mt 151 = M_X32_init := rfl
theorem o_X32_init : mown M_X32_init = 62 := rfl
theorem r_X32_init : mrt M_X32_init = 9 := rfl
theorem l_X32_init : mlc M_X32_init = 3 := rfl
theorem h_X32_init : mhh M_X32_init = [] := rfl
theorem mt_152 : mt 152 = M_X31_init := rfl
theorem o_X31_init : mown M_X31_init = 61 := rfl
theorem r_X31_init : mrt M_X31_init = 9 := rfl
theorem l_X31_init : mlc M_X31_init = 1 := rfl
theorem h_X31_init : mhh M_X31_init = [] := rfl
theorem mt_153 : mt 153 = M_X34_init := rfl
theorem o_X34_init : mown M_X34_init = 64 := rfl
theorem r_X34_init : mrt M_X34_init = 9 := rfl
theorem l_X34_init : mlc M_X34_init = 4 := rfl
theorem h_X34_init : mhh M_X34_init = [] := rfl
theorem mt_154 : mt 154 = M_X35_init := rfl
theorem o_X35_init : mown M_X35_init = 65 := rfl
theorem r_X35_init : mrt M_X35_init = 9 := rfl
theorem l_X35_init : mlc M_X35_init = 4 := rfl
theorem h_X35_init : mhh M_X35_init = [] := rfl
theorem mt_155 : mt 155 = M_X36_init := rfl
theorem o_X36_init : mown M_X36_init = 66 := rfl
theorem r_X36_init : mrt M_X36_init = 9 := rfl
theorem l_X36_init : mlc M_X36_init = 2 := rfl
theorem h_X36_init : mhh M_X36_init = [] := rfl
theorem mt_156 : mt 156 = M_X4_choice := rfl
theorem o_X4_choice : mown M_X4_choice = 34 := rfl
theorem r_X4_choice : mrt M_X4_choice = 10 := rfl
theorem l_X4_choice : mlc M_X4_choice = 4 := rfl
theorem h_X4_choice : mhh M_X4_choice = [] := rfl
theorem mt_157 : mt 157 = M_X37_init := rfl
theorem o_X37_init : mown M_X37_init = 67 := rfl
theorem r_X37_init : mrt M_X37_init = 9 := rfl
theorem l_X37_init : mlc M_X37_init = 4 := rfl
theorem h_X37_init : mhh M_X37_init = [] := rfl
theorem mt_158 : mt 158 = M_X4_ofRow := rfl
theorem o_X4_ofRow : mown M_X4_ofRow = 34 := rfl
theorem r_X4_ofRow : mrt M_X4_ofRow = 10 := rfl
theorem l_X4_ofRow : mlc M_X4_ofRow = 5 := rfl
theorem h_X4_ofRow : mhh M_X4_ofRow = [] := rfl
theorem mt_159 : mt 159 = M_X4_rowOf := rfl
theorem o_X4_rowOf : mown M_X4_rowOf = 34 := rfl
theorem r_X4_rowOf : mrt M_X4_rowOf = 8 := rfl
theorem l_X4_rowOf : mlc M_X4_rowOf = 3 := rfl
theorem h_X4_rowOf : mhh M_X4_rowOf = [] := rfl
theorem mt_160 : mt 160 = M_X4_different := rfl
theorem o_X4_different : mown M_X4_different = 34 := rfl
theorem r_X4_different : mrt M_X4_different = 10 := rfl
theorem l_X4_different : mlc M_X4_different = 6 := rfl
theorem h_X4_different : mhh M_X4_different = [] := rfl
theorem mt_161 : mt 161 = M_X4_sum := rfl
theorem o_X4_sum : mown M_X4_sum = 34 := rfl
theorem r_X4_sum : mrt M_X4_sum = 10 := rfl
theorem l_X4_sum : mlc M_X4_sum = 4 := rfl
theorem h_X4_sum : mhh M_X4_sum = [] := rfl
theorem mt_162 : mt 162 = M_X4_added := rfl
theorem o_X4_added : mown M_X4_added = 34 := rfl
theorem r_X4_added : mrt M_X4_added = 10 := rfl
theorem l_X4_added : mlc M_X4_added = 2 := rfl
theorem h_X4_added : mhh M_X4_added = [] := rfl
theorem mt_163 : mt 163 = M_X4_count := rfl
theorem o_X4_count : mown M_X4_count = 34 := rfl
theorem r_X4_count : mrt M_X4_count = 10 := rfl
theorem l_X4_count : mlc M_X4_count = 8 := rfl
theorem h_X4_count : mhh M_X4_count = [] := rfl
theorem mt_164 : mt 164 = M_X4_among := rfl
theorem o_X4_among : mown M_X4_among = 34 := rfl
theorem r_X4_among : mrt M_X4_among = 10 := rfl
theorem l_X4_among : mlc M_X4_among = 5 := rfl
theorem h_X4_among : mhh M_X4_among = [] := rfl
theorem mt_165 : mt 165 = M_X38_init := rfl
theorem o_X38_init : mown M_X38_init = 68 := rfl
theorem r_X38_init : mrt M_X38_init = 9 := rfl
theorem l_X38_init : mlc M_X38_init = 3 := rfl
theorem h_X38_init : mhh M_X38_init = [] := rfl
theorem mt_166 : mt 166 = M_X4_state := rfl
theorem o_X4_state : mown M_X4_state = 34 := rfl
theorem r_X4_state : mrt M_X4_state = 0 := rfl
theorem l_X4_state : mlc M_X4_state = 7 := rfl
theorem h_X4_state : mhh M_X4_state = [] := rfl
theorem mt_167 : mt 167 = M_X4_tell := rfl
theorem o_X4_tell : mown M_X4_tell = 34 := rfl
theorem r_X4_tell : mrt M_X4_tell = 10 := rfl
theorem l_X4_tell : mlc M_X4_tell = 7 := rfl
theorem h_X4_tell : mhh M_X4_tell = [] := rfl
theorem mt_168 : mt 168 = M_J12_init := rfl
theorem o_J12_init : mown M_J12_init = 12 := rfl
theorem r_J12_init : mrt M_J12_init = 9 := rfl
theorem l_J12_init : mlc M_J12_init = 2 := rfl
theorem h_J12_init : mhh M_J12_init = [] := rfl
theorem mt_169 : mt 169 = M_J11_init := rfl
theorem o_J11_init : mown M_J11_init = 11 := rfl
theorem r_J11_init : mrt M_J11_init = 9 := rfl
theorem l_J11_init : mlc M_J11_init = 2 := rfl
theorem h_J11_init : mhh M_J11_init = [] := rfl
theorem mt_170 : mt 170 = M_J6_newBytesFor := rfl
theorem o_J6_newBytesFor : mown M_J6_newBytesFor = 6 := rfl
theorem r_J6_newBytesFor : mrt M_J6_newBytesFor = 8 := rfl
theorem l_J6_newBytesFor : mlc M_J6_newBytesFor = 1 := rfl
theorem h_J6_newBytesFor : mhh M_J6_newBytesFor = [] := rfl
theorem mt_171 : mt 171 = M_J6_newBytesLength := rfl
theorem o_J6_newBytesLength : mown M_J6_newBytesLength = 6 := rfl
theorem r_J6_newBytesLength : mrt M_J6_newBytesLength = 0 := rfl
theorem l_J6_newBytesLength : mlc M_J6_newBytesLength = 1 := rfl
theorem h_J6_newBytesLength : mhh M_J6_newBytesLength = [] := rfl
theorem mt_172 : mt 172 = M_J13_init := rfl
theorem o_J13_init : mown M_J13_init = 13 := rfl
theorem r_J13_init : mrt M_J13_init = 9 := rfl
theorem l_J13_init : mlc M_J13_init = 1 := rfl
theorem h_J13_init : mhh M_J13_init = [] := rfl
theorem mt_173 : mt 173 = M_J12_append := rfl
theorem o_J12_append : mown M_J12_append = 12 := rfl
theorem r_J12_append : mrt M_J12_append = 8 := rfl
theorem l_J12_append : mlc M_J12_append = 2 := rfl
theorem h_J12_append : mhh M_J12_append = [] := rfl
theorem mt_174 : mt 174 = M_J11_append := rfl
theorem o_J11_append : mown M_J11_append = 11 := rfl
theorem r_J11_append : mrt M_J11_append = 8 := rfl
theorem l_J11_append : mlc M_J11_append = 2 := rfl
theorem h_J11_append : mhh M_J11_append = [] := rfl
theorem mt_175 : mt 175 = M_J11_ensureCapacityInternal := rfl
theorem o_J11_ensureCapacityInternal : mown M_J11_ensureCapacityInternal = 11 := rfl
theorem r_J11_ensureCapacityInternal : mrt M_J11_ensureCapacityInternal = 10 := rfl
theorem l_J11_ensureCapacityInternal : mlc M_J11_ensureCapacityInternal = 3 := rfl
theorem h_J11_ensureCapacityInternal : mhh M_J11_ensureCapacityInternal = [] := rfl
theorem mt_176 : mt 176 = M_J11_newCapacity := rfl
theorem o_J11_newCapacity : mown M_J11_newCapacity = 11 := rfl
theorem r_J11_newCapacity : mrt M_J11_newCapacity = 0 := rfl
theorem l_J11_newCapacity : mlc M_J11_newCapacity = 6 := rfl
theorem h_J11_newCapacity : mhh M_J11_newCapacity = [] := rfl
theorem mt_177 : mt 177 = M_J14_newLength := rfl
theorem o_J14_newLength : mown M_J14_newLength = 14 := rfl
theorem r_J14_newLength : mrt M_J14_newLength = 0 := rfl
theorem l_J14_newLength : mlc M_J14_newLength = 4 := rfl
theorem h_J14_newLength : mhh M_J14_newLength = [] := rfl
theorem mt_178 : mt 178 = M_J15_max := rfl
theorem o_J15_max : mown M_J15_max = 15 := rfl
theorem r_J15_max : mrt M_J15_max = 0 := rfl
theorem l_J15_max : mlc M_J15_max = 2 := rfl
theorem h_J15_max : mhh M_J15_max = [] := rfl
theorem mt_179 : mt 179 = M_J14_hugeLength := rfl
theorem o_J14_hugeLength : mown M_J14_hugeLength = 14 := rfl
theorem r_J14_hugeLength : mrt M_J14_hugeLength = 0 := rfl
theorem l_J14_hugeLength : mlc M_J14_hugeLength = 3 := rfl
theorem h_J14_hugeLength : mhh M_J14_hugeLength = [] := rfl
theorem mt_180 : mt 180 = M_J16_copyOf := rfl
theorem o_J16_copyOf : mown M_J16_copyOf = 16 := rfl
theorem r_J16_copyOf : mrt M_J16_copyOf = 8 := rfl
theorem l_J16_copyOf : mlc M_J16_copyOf = 3 := rfl
theorem h_J16_copyOf : mhh M_J16_copyOf = [] := rfl
theorem mt_181 : mt 181 = M_J15_min := rfl
theorem o_J15_min : mown M_J15_min = 15 := rfl
theorem r_J15_min : mrt M_J15_min = 0 := rfl
theorem l_J15_min : mlc M_J15_min = 2 := rfl
theorem h_J15_min : mhh M_J15_min = [] := rfl
theorem mt_182 : mt 182 = M_J11_isLatin1 := rfl
theorem o_J11_isLatin1 : mown M_J11_isLatin1 = 11 := rfl
theorem r_J11_isLatin1 : mrt M_J11_isLatin1 = 1 := rfl
theorem l_J11_isLatin1 : mlc M_J11_isLatin1 = 1 := rfl
theorem h_J11_isLatin1 : mhh M_J11_isLatin1 = [] := rfl
theorem mt_183 : mt 183 = M_J4_canEncode := rfl
theorem o_J4_canEncode : mown M_J4_canEncode = 4 := rfl
theorem r_J4_canEncode : mrt M_J4_canEncode = 1 := rfl
theorem l_J4_canEncode : mlc M_J4_canEncode = 1 := rfl
theorem h_J4_canEncode : mhh M_J4_canEncode = [] := rfl
theorem mt_184 : mt 184 = M_J11_inflate := rfl
theorem o_J11_inflate : mown M_J11_inflate = 11 := rfl
theorem r_J11_inflate : mrt M_J11_inflate = 10 := rfl
theorem l_J11_inflate : mlc M_J11_inflate = 2 := rfl
theorem h_J11_inflate : mhh M_J11_inflate = [] := rfl
theorem mt_185 : mt 185 = M_J4_inflate := rfl
theorem o_J4_inflate : mown M_J4_inflate = 4 := rfl
theorem r_J4_inflate : mrt M_J4_inflate = 10 := rfl
theorem l_J4_inflate : mlc M_J4_inflate = 5 := rfl
theorem h_J4_inflate : mhh M_J4_inflate = [] := rfl
theorem mt_186 : mt 186 = M_J6_inflate := rfl
theorem o_J6_inflate : mown M_J6_inflate = 6 := rfl
theorem r_J6_inflate : mrt M_J6_inflate = 10 := rfl
theorem l_J6_inflate : mlc M_J6_inflate = 6 := rfl
theorem h_J6_inflate : mhh M_J6_inflate = [] := rfl
theorem mt_187 : mt 187 = M_J6_checkBoundsOffCount := rfl
theorem o_J6_checkBoundsOffCount : mown M_J6_checkBoundsOffCount = 6 := rfl
theorem r_J6_checkBoundsOffCount : mrt M_J6_checkBoundsOffCount = 10 := rfl
theorem l_J6_checkBoundsOffCount : mlc M_J6_checkBoundsOffCount = 3 := rfl
theorem h_J6_checkBoundsOffCount : mhh M_J6_checkBoundsOffCount = [] := rfl
theorem mt_188 : mt 188 = M_J3_checkBoundsOffCount := rfl
theorem o_J3_checkBoundsOffCount : mown M_J3_checkBoundsOffCount = 3 := rfl
theorem r_J3_checkBoundsOffCount : mrt M_J3_checkBoundsOffCount = 0 := rfl
theorem l_J3_checkBoundsOffCount : mlc M_J3_checkBoundsOffCount = 3 := rfl
theorem h_J3_checkBoundsOffCount : mhh M_J3_checkBoundsOffCount = [] := rfl
theorem mt_189 : mt 189 = M_J5_checkFromIndexSize := rfl
theorem o_J5_checkFromIndexSize : mown M_J5_checkFromIndexSize = 5 := rfl
theorem r_J5_checkFromIndexSize : mrt M_J5_checkFromIndexSize = 0 := rfl
theorem l_J5_checkFromIndexSize : mlc M_J5_checkFromIndexSize = 4 := rfl
theorem h_J5_checkFromIndexSize : mhh M_J5_checkFromIndexSize = [] := rfl
theorem mt_190 : mt 190 = M_J6_putChar := rfl
theorem o_J6_putChar : mown M_J6_putChar = 6 := rfl
theorem r_J6_putChar : mrt M_J6_putChar = 10 := rfl
theorem l_J6_putChar : mlc M_J6_putChar = 3 := rfl
theorem h_J6_putChar : mhh M_J6_putChar = [] := rfl
theorem mt_191 : mt 191 = M_J6_putCharSB := rfl
theorem o_J6_putCharSB : mown M_J6_putCharSB = 6 := rfl
theorem r_J6_putCharSB : mrt M_J6_putCharSB = 10 := rfl
theorem l_J6_putCharSB : mlc M_J6_putCharSB = 3 := rfl
theorem h_J6_putCharSB : mhh M_J6_putCharSB = [] := rfl
theorem mt_192 : mt 192 = M_J12_toString := rfl
theorem o_J12_toString : mown M_J12_toString = 12 := rfl
theorem r_J12_toString : mrt M_J12_toString = 8 := rfl
theorem l_J12_toString : mlc M_J12_toString = 1 := rfl
theorem h_J12_toString : mhh M_J12_toString = [] := rfl
theorem mt_193 : mt 193 = M_J3_init := rfl
theorem o_J3_init : mown M_J3_init = 3 := rfl
theorem r_J3_init : mrt M_J3_init = 9 := rfl
theorem l_J3_init : mlc M_J3_init = 2 := rfl
theorem h_J3_init : mhh M_J3_init = [] := rfl
theorem mt_194 : mt 194 = M_J3_init_2 := rfl
theorem o_J3_init_2 : mown M_J3_init_2 = 3 := rfl
theorem r_J3_init_2 : mrt M_J3_init_2 = 9 := rfl
theorem l_J3_init_2 : mlc M_J3_init_2 = 5 := rfl
theorem h_J3_init_2 : mhh M_J3_init_2 = [] := rfl
theorem mt_195 : mt 195 = M_J11_getValue := rfl
theorem o_J11_getValue : mown M_J11_getValue = 11 := rfl
theorem r_J11_getValue : mrt M_J11_getValue = 8 := rfl
theorem l_J11_getValue : mlc M_J11_getValue = 1 := rfl
theorem h_J11_getValue : mhh M_J11_getValue = [] := rfl
theorem mt_196 : mt 196 = M_J12_length := rfl
theorem o_J12_length : mown M_J12_length = 12 := rfl
theorem r_J12_length : mrt M_J12_length = 0 := rfl
theorem l_J12_length : mlc M_J12_length = 1 := rfl
theorem h_J12_length : mhh M_J12_length = [] := rfl
theorem mt_197 : mt 197 = M_J11_length := rfl
theorem o_J11_length : mown M_J11_length = 11 := rfl
theorem r_J11_length : mrt M_J11_length = 0 := rfl
theorem l_J11_length : mlc M_J11_length = 1 := rfl
theorem h_J11_length : mhh M_J11_length = [] := rfl
theorem mt_198 : mt 198 = M_J16_copyOfRange := rfl
theorem o_J16_copyOfRange : mown M_J16_copyOfRange = 16 := rfl
theorem r_J16_copyOfRange : mrt M_J16_copyOfRange = 8 := rfl
theorem l_J16_copyOfRange : mlc M_J16_copyOfRange = 3 := rfl
theorem h_J16_copyOfRange : mhh M_J16_copyOfRange = [] := rfl
theorem mt_199 : mt 199 = M_J16_copyOfRangeByte := rfl
theorem o_J16_copyOfRangeByte : mown M_J16_copyOfRangeByte = 16 := rfl
theorem r_J16_copyOfRangeByte : mrt M_J16_copyOfRangeByte = 8 := rfl
theorem l_J16_copyOfRangeByte : mlc M_J16_copyOfRangeByte = 5 := rfl
theorem h_J16_copyOfRangeByte : mhh M_J16_copyOfRangeByte = [] := rfl
theorem mt_200 : mt 200 = M_J16_checkLength := rfl
theorem o_J16_checkLength : mown M_J16_checkLength = 16 := rfl
theorem r_J16_checkLength : mrt M_J16_checkLength = 10 := rfl
theorem l_J16_checkLength : mlc M_J16_checkLength = 2 := rfl
theorem h_J16_checkLength : mhh M_J16_checkLength = [] := rfl
theorem mt_201 : mt 201 = M_J6_compress := rfl
theorem o_J6_compress : mown M_J6_compress = 6 := rfl
theorem r_J6_compress : mrt M_J6_compress = 8 := rfl
theorem l_J6_compress : mlc M_J6_compress = 6 := rfl
theorem h_J6_compress : mhh M_J6_compress = [] := rfl
theorem mt_202 : mt 202 = M_J6_compress_2 := rfl
theorem o_J6_compress_2 : mown M_J6_compress_2 = 6 := rfl
theorem r_J6_compress_2 : mrt M_J6_compress_2 = 0 := rfl
theorem l_J6_compress_2 : mlc M_J6_compress_2 = 7 := rfl
theorem h_J6_compress_2 : mhh M_J6_compress_2 = [] := rfl
theorem mt_203 : mt 203 = M_J6_coderFromArrayLen := rfl
theorem o_J6_coderFromArrayLen : mown M_J6_coderFromArrayLen = 6 := rfl
theorem r_J6_coderFromArrayLen : mrt M_J6_coderFromArrayLen = 2 := rfl
theorem l_J6_coderFromArrayLen : mlc M_J6_coderFromArrayLen = 2 := rfl
theorem h_J6_coderFromArrayLen : mhh M_J6_coderFromArrayLen = [] := rfl
theorem mt_204 : mt 204 = M_X4_another := rfl
theorem o_X4_another : mown M_X4_another = 34 := rfl
theorem r_X4_another : mrt M_X4_another = 8 := rfl
theorem l_X4_another : mlc M_X4_another = 5 := rfl
theorem h_X4_another : mhh M_X4_another = [] := rfl
theorem mt_205 : mt 205 = M_X4_variableOf := rfl
theorem o_X4_variableOf : mown M_X4_variableOf = 34 := rfl
theorem r_X4_variableOf : mrt M_X4_variableOf = 8 := rfl
theorem l_X4_variableOf : mlc M_X4_variableOf = 3 := rfl
theorem h_X4_variableOf : mhh M_X4_variableOf = [] := rfl
theorem mt_206 : mt 206 = M_J17_init := rfl
theorem o_J17_init : mown M_J17_init = 17 := rfl
theorem r_J17_init : mrt M_J17_init = 9 := rfl
theorem l_J17_init : mlc M_J17_init = 2 := rfl
theorem h_J17_init : mhh M_J17_init = [] := rfl
theorem mt_207 : mt 207 = M_X9_under := rfl
theorem o_X9_under : mown M_X9_under = 39 := rfl
theorem r_X9_under : mrt M_X9_under = 6 := rfl
theorem l_X9_under : mlc M_X9_under = 3 := rfl
theorem h_X9_under : mhh M_X9_under = [] := rfl
theorem mt_208 : mt 208 = M_J15_nextDown := rfl
theorem o_J15_nextDown : mown M_J15_nextDown = 15 := rfl
theorem r_J15_nextDown : mrt M_J15_nextDown = 6 := rfl
theorem l_J15_nextDown : mlc M_J15_nextDown = 1 := rfl
theorem h_J15_nextDown : mhh M_J15_nextDown = [] := rfl
theorem mt_209 : mt 209 = M_J18_isNaN := rfl
theorem o_J18_isNaN : mown M_J18_isNaN = 18 := rfl
theorem r_J18_isNaN : mrt M_J18_isNaN = 1 := rfl
theorem l_J18_isNaN : mlc M_J18_isNaN = 1 := rfl
theorem h_J18_isNaN : mhh M_J18_isNaN = [] := rfl
theorem mt_210 : mt 210 = M_X9_plain := rfl
theorem o_X9_plain : mown M_X9_plain = 39 := rfl
theorem r_X9_plain : mrt M_X9_plain = 6 := rfl
theorem l_X9_plain : mlc M_X9_plain = 1 := rfl
theorem h_X9_plain : mhh M_X9_plain = [] := rfl
theorem mt_211 : mt 211 = M_X9_over := rfl
theorem o_X9_over : mown M_X9_over = 39 := rfl
theorem r_X9_over : mrt M_X9_over = 6 := rfl
theorem l_X9_over : mlc M_X9_over = 3 := rfl
theorem h_X9_over : mhh M_X9_over = [] := rfl
theorem mt_212 : mt 212 = M_J15_nextUp := rfl
theorem o_J15_nextUp : mown M_J15_nextUp = 15 := rfl
theorem r_J15_nextUp : mrt M_J15_nextUp = 6 := rfl
theorem l_J15_nextUp : mlc M_J15_nextUp = 2 := rfl
theorem h_J15_nextUp : mhh M_J15_nextUp = [] := rfl
theorem mt_213 : mt 213 = M_X10_range := rfl
theorem o_X10_range : mown M_X10_range = 40 := rfl
theorem r_X10_range : mrt M_X10_range = 10 := rfl
theorem l_X10_range : mlc M_X10_range = 6 := rfl
theorem h_X10_range : mhh M_X10_range = [] := rfl
theorem mt_214 : mt 214 = M_J15_ceil := rfl
theorem o_J15_ceil : mown M_J15_ceil = 15 := rfl
theorem r_J15_ceil : mrt M_J15_ceil = 7 := rfl
theorem l_J15_ceil : mlc M_J15_ceil = 2 := rfl
theorem h_J15_ceil : mhh M_J15_ceil = [] := rfl
theorem mt_215 : mt 215 = M_J19_ceil := rfl
theorem o_J19_ceil : mown M_J19_ceil = 19 := rfl
theorem r_J19_ceil : mrt M_J19_ceil = 7 := rfl
theorem l_J19_ceil : mlc M_J19_ceil = 2 := rfl
theorem h_J19_ceil : mhh M_J19_ceil = [] := rfl
theorem mt_216 : mt 216 = M_J19_floorOrCeil := rfl
theorem o_J19_floorOrCeil : mown M_J19_floorOrCeil = 19 := rfl
theorem r_J19_floorOrCeil : mrt M_J19_floorOrCeil = 7 := rfl
theorem l_J19_floorOrCeil : mlc M_J19_floorOrCeil = 15 := rfl
theorem h_J19_floorOrCeil : mhh M_J19_floorOrCeil = [] := rfl
theorem mt_217 : mt 217 = M_J15_getExponent := rfl
theorem o_J15_getExponent : mown M_J15_getExponent = 15 := rfl
theorem r_J15_getExponent : mrt M_J15_getExponent = 0 := rfl
theorem l_J15_getExponent : mlc M_J15_getExponent = 2 := rfl
theorem h_J15_getExponent : mhh M_J15_getExponent = [] := rfl
theorem mt_218 : mt 218 = M_J15_floor := rfl
theorem o_J15_floor : mown M_J15_floor = 15 := rfl
theorem r_J15_floor : mrt M_J15_floor = 7 := rfl
theorem l_J15_floor : mlc M_J15_floor = 2 := rfl
theorem h_J15_floor : mhh M_J15_floor = [] := rfl
theorem mt_219 : mt 219 = M_J19_floor := rfl
theorem o_J19_floor : mown M_J19_floor = 19 := rfl
theorem r_J19_floor : mrt M_J19_floor = 7 := rfl
theorem l_J19_floor : mlc M_J19_floor = 2 := rfl
theorem h_J19_floor : mhh M_J19_floor = [] := rfl
theorem mt_220 : mt 220 = M_X10_add := rfl
theorem o_X10_add : mown M_X10_add = 40 := rfl
theorem r_X10_add : mrt M_X10_add = 10 := rfl
theorem l_X10_add : mlc M_X10_add = 4 := rfl
theorem h_X10_add : mhh M_X10_add = [] := rfl
theorem mt_221 : mt 221 = M_X4_row := rfl
theorem o_X4_row : mown M_X4_row = 34 := rfl
theorem r_X4_row : mrt M_X4_row = 10 := rfl
theorem l_X4_row : mlc M_X4_row = 5 := rfl
theorem h_X4_row : mhh M_X4_row = [] := rfl
theorem mt_222 : mt 222 = M_J13_init_2 := rfl
theorem o_J13_init_2 : mown M_J13_init_2 = 13 := rfl
theorem r_J13_init_2 : mrt M_J13_init_2 = 9 := rfl
theorem l_J13_init_2 : mlc M_J13_init_2 = 2 := rfl
theorem h_J13_init_2 : mhh M_J13_init_2 = [] := rfl
theorem mt_223 : mt 223 = M_X39_init := rfl
theorem o_X39_init : mown M_X39_init = 69 := rfl
theorem r_X39_init : mrt M_X39_init = 9 := rfl
theorem l_X39_init : mlc M_X39_init = 3 := rfl
theorem h_X39_init : mhh M_X39_init = [] := rfl
theorem mt_224 : mt 224 = M_X4_fill := rfl
theorem o_X4_fill : mown M_X4_fill = 34 := rfl
theorem r_X4_fill : mrt M_X4_fill = 10 := rfl
theorem l_X4_fill : mlc M_X4_fill = 4 := rfl
theorem h_X4_fill : mhh M_X4_fill = [] := rfl
theorem mt_225 : mt 225 = M_J21_init := rfl
theorem o_J21_init : mown M_J21_init = 21 := rfl
theorem r_J21_init : mrt M_J21_init = 9 := rfl
theorem l_J21_init : mlc M_J21_init = 2 := rfl
theorem h_J21_init : mhh M_J21_init = [] := rfl
theorem mt_226 : mt 226 = M_X4_fits := rfl
theorem o_X4_fits : mown M_X4_fits = 34 := rfl
theorem r_X4_fits : mrt M_X4_fits = 1 := rfl
theorem l_X4_fits : mlc M_X4_fits = 2 := rfl
theorem h_X4_fits : mhh M_X4_fits = [] := rfl
theorem mt_227 : mt 227 = M_X4_rule := rfl
theorem o_X4_rule : mown M_X4_rule = 34 := rfl
theorem r_X4_rule : mrt M_X4_rule = 10 := rfl
theorem l_X4_rule : mlc M_X4_rule = 2 := rfl
theorem h_X4_rule : mhh M_X4_rule = [] := rfl
theorem mt_228 : mt 228 = M_X4_aim := rfl
theorem o_X4_aim : mown M_X4_aim = 34 := rfl
theorem r_X4_aim : mrt M_X4_aim = 10 := rfl
theorem l_X4_aim : mlc M_X4_aim = 2 := rfl
theorem h_X4_aim : mhh M_X4_aim = [] := rfl
theorem mt_229 : mt 229 = M_X1_fault := rfl
theorem o_X1_fault : mown M_X1_fault = 31 := rfl
theorem r_X1_fault : mrt M_X1_fault = 0 := rfl
theorem l_X1_fault : mlc M_X1_fault = 2 := rfl
theorem h_X1_fault : mhh M_X1_fault = [] := rfl
theorem mt_230 : mt 230 = M_X1_forget := rfl
theorem o_X1_forget : mown M_X1_forget = 31 := rfl
theorem r_X1_forget : mrt M_X1_forget = 0 := rfl
theorem l_X1_forget : mlc M_X1_forget = 2 := rfl
theorem h_X1_forget : mhh M_X1_forget = [] := rfl
theorem mt_231 : mt 231 = M_X4_clear := rfl
theorem o_X4_clear : mown M_X4_clear = 34 := rfl
theorem r_X4_clear : mrt M_X4_clear = 10 := rfl
theorem l_X4_clear : mlc M_X4_clear = 1 := rfl
theorem h_X4_clear : mhh M_X4_clear = [] := rfl
theorem mt_232 : mt 232 = M_X1_narrow := rfl
theorem o_X1_narrow : mown M_X1_narrow = 31 := rfl
theorem r_X1_narrow : mrt M_X1_narrow = 0 := rfl
theorem l_X1_narrow : mlc M_X1_narrow = 1 := rfl
theorem h_X1_narrow : mhh M_X1_narrow = [] := rfl
theorem mt_233 : mt 233 = M_X3_rounds := rfl
theorem o_X3_rounds : mown M_X3_rounds = 33 := rfl
theorem r_X3_rounds : mrt M_X3_rounds = 0 := rfl
theorem l_X3_rounds : mlc M_X3_rounds = 4 := rfl
theorem h_X3_rounds : mhh M_X3_rounds = [] := rfl
theorem mt_234 : mt 234 = M_X3_note := rfl
theorem o_X3_note : mown M_X3_note = 33 := rfl
theorem r_X3_note : mrt M_X3_note = 10 := rfl
theorem l_X3_note : mlc M_X3_note = 3 := rfl
theorem h_X3_note : mhh M_X3_note = [] := rfl
theorem mt_235 : mt 235 = M_X12_things := rfl
theorem o_X12_things : mown M_X12_things = 42 := rfl
theorem r_X12_things : mrt M_X12_things = 0 := rfl
theorem l_X12_things : mlc M_X12_things = 1 := rfl
theorem h_X12_things : mhh M_X12_things = [] := rfl
theorem mt_236 : mt 236 = M_X8_things := rfl
theorem o_X8_things : mown M_X8_things = 38 := rfl
theorem r_X8_things : mrt M_X8_things = 0 := rfl
theorem l_X8_things : mlc M_X8_things = 1 := rfl
theorem h_X8_things : mhh M_X8_things = [] := rfl
theorem mt_237 : mt 237 = M_X9_things := rfl
theorem o_X9_things : mown M_X9_things = 39 := rfl
theorem r_X9_things : mrt M_X9_things = 0 := rfl
theorem l_X9_things : mlc M_X9_things = 1 := rfl
theorem h_X9_things : mhh M_X9_things = [] := rfl
theorem mt_238 : mt 238 = M_X11_things := rfl
theorem o_X11_things : mown M_X11_things = 41 := rfl
theorem r_X11_things : mrt M_X11_things = 0 := rfl
theorem l_X11_things : mlc M_X11_things = 1 := rfl
theorem h_X11_things : mhh M_X11_things = [] := rfl
theorem mt_239 : mt 239 = M_X10_things := rfl
theorem o_X10_things : mown M_X10_things = 40 := rfl
theorem r_X10_things : mrt M_X10_things = 0 := rfl
theorem l_X10_things : mlc M_X10_things = 1 := rfl
theorem h_X10_things : mhh M_X10_things = [] := rfl
theorem mt_240 : mt 240 = M_X3_isBounded := rfl
theorem o_X3_isBounded : mown M_X3_isBounded = 33 := rfl
theorem r_X3_isBounded : mrt M_X3_isBounded = 1 := rfl
theorem l_X3_isBounded : mlc M_X3_isBounded = 1 := rfl
theorem h_X3_isBounded : mhh M_X3_isBounded = [] := rfl
theorem mt_241 : mt 241 = M_X40_hasBounds := rfl
theorem o_X40_hasBounds : mown M_X40_hasBounds = 70 := rfl
theorem r_X40_hasBounds : mrt M_X40_hasBounds = 1 := rfl
theorem l_X40_hasBounds : mlc M_X40_hasBounds = 1 := rfl
theorem h_X40_hasBounds : mhh M_X40_hasBounds = [] := rfl
theorem mt_242 : mt 242 = M_X8_hasBounds := rfl
theorem o_X8_hasBounds : mown M_X8_hasBounds = 38 := rfl
theorem r_X8_hasBounds : mrt M_X8_hasBounds = 1 := rfl
theorem l_X8_hasBounds : mlc M_X8_hasBounds = 1 := rfl
theorem h_X8_hasBounds : mhh M_X8_hasBounds = [] := rfl
theorem mt_243 : mt 243 = M_X9_hasBounds := rfl
theorem o_X9_hasBounds : mown M_X9_hasBounds = 39 := rfl
theorem r_X9_hasBounds : mrt M_X9_hasBounds = 1 := rfl
theorem l_X9_hasBounds : mlc M_X9_hasBounds = 1 := rfl
theorem h_X9_hasBounds : mhh M_X9_hasBounds = [] := rfl
theorem mt_244 : mt 244 = M_X8_high := rfl
theorem o_X8_high : mown M_X8_high = 38 := rfl
theorem r_X8_high : mrt M_X8_high = 7 := rfl
theorem l_X8_high : mlc M_X8_high = 1 := rfl
theorem h_X8_high : mhh M_X8_high = [] := rfl
theorem mt_245 : mt 245 = M_X9_high := rfl
theorem o_X9_high : mown M_X9_high = 39 := rfl
theorem r_X9_high : mrt M_X9_high = 7 := rfl
theorem l_X9_high : mlc M_X9_high = 1 := rfl
theorem h_X9_high : mhh M_X9_high = [] := rfl
theorem mt_246 : mt 246 = M_X10_high := rfl
theorem o_X10_high : mown M_X10_high = 40 := rfl
theorem r_X10_high : mrt M_X10_high = 7 := rfl
theorem l_X10_high : mlc M_X10_high = 1 := rfl
theorem h_X10_high : mhh M_X10_high = [] := rfl
theorem mt_247 : mt 247 = M_X32_forwards := rfl
theorem o_X32_forwards : mown M_X32_forwards = 62 := rfl
theorem r_X32_forwards : mrt M_X32_forwards = 10 := rfl
theorem l_X32_forwards : mlc M_X32_forwards = 2 := rfl
theorem h_X32_forwards : mhh M_X32_forwards = [] := rfl
theorem mt_248 : mt 248 = M_X38_forwards := rfl
theorem o_X38_forwards : mown M_X38_forwards = 68 := rfl
theorem r_X38_forwards : mrt M_X38_forwards = 10 := rfl
theorem l_X38_forwards : mlc M_X38_forwards = 2 := rfl
theorem h_X38_forwards : mhh M_X38_forwards = [] := rfl
theorem mt_249 : mt 249 = M_X37_forwards := rfl
theorem o_X37_forwards : mown M_X37_forwards = 67 := rfl
theorem r_X37_forwards : mrt M_X37_forwards = 10 := rfl
theorem l_X37_forwards : mlc M_X37_forwards = 2 := rfl
theorem h_X37_forwards : mhh M_X37_forwards = [] := rfl
theorem mt_250 : mt 250 = M_X16_forwards := rfl
theorem o_X16_forwards : mown M_X16_forwards = 46 := rfl
theorem r_X16_forwards : mrt M_X16_forwards = 10 := rfl
theorem l_X16_forwards : mlc M_X16_forwards = 2 := rfl
theorem h_X16_forwards : mhh M_X16_forwards = [] := rfl
theorem mt_251 : mt 251 = M_X15_be := rfl
theorem o_X15_be : mown M_X15_be = 45 := rfl
theorem r_X15_be : mrt M_X15_be = 10 := rfl
theorem l_X15_be : mlc M_X15_be = 5 := rfl
theorem h_X15_be : mhh M_X15_be = [] := rfl
theorem mt_252 : mt 252 = M_X15_truth := rfl
theorem o_X15_truth : mown M_X15_truth = 45 := rfl
theorem r_X15_truth : mrt M_X15_truth = 10 := rfl
theorem l_X15_truth : mlc M_X15_truth = 3 := rfl
theorem h_X15_truth : mhh M_X15_truth = [] := rfl
theorem mt_253 : mt 253 = M_X24_forwards := rfl
theorem o_X24_forwards : mown M_X24_forwards = 54 := rfl
theorem r_X24_forwards : mrt M_X24_forwards = 10 := rfl
theorem l_X24_forwards : mlc M_X24_forwards = 2 := rfl
theorem h_X24_forwards : mhh M_X24_forwards = [] := rfl
theorem mt_254 : mt 254 = M_X17_forwards := rfl
theorem o_X17_forwards : mown M_X17_forwards = 47 := rfl
theorem r_X17_forwards : mrt M_X17_forwards = 10 := rfl
theorem l_X17_forwards : mlc M_X17_forwards = 3 := rfl
theorem h_X17_forwards : mhh M_X17_forwards = [] := rfl
theorem mt_255 : mt 255 = M_X18_forwards := rfl
theorem o_X18_forwards : mown M_X18_forwards = 48 := rfl
theorem r_X18_forwards : mrt M_X18_forwards = 10 := rfl
theorem l_X18_forwards : mlc M_X18_forwards = 2 := rfl
theorem h_X18_forwards : mhh M_X18_forwards = [] := rfl
theorem mt_256 : mt 256 = M_X36_forwards := rfl
theorem o_X36_forwards : mown M_X36_forwards = 66 := rfl
theorem r_X36_forwards : mrt M_X36_forwards = 10 := rfl
theorem l_X36_forwards : mlc M_X36_forwards = 2 := rfl
theorem h_X36_forwards : mhh M_X36_forwards = [] := rfl
theorem mt_257 : mt 257 = M_X20_reckon := rfl
theorem o_X20_reckon : mown M_X20_reckon = 50 := rfl
theorem r_X20_reckon : mrt M_X20_reckon = 10 := rfl
theorem l_X20_reckon : mlc M_X20_reckon = 1 := rfl
theorem h_X20_reckon : mhh M_X20_reckon = [] := rfl
theorem mt_258 : mt 258 = M_J15_abs := rfl
theorem o_J15_abs : mown M_J15_abs = 15 := rfl
theorem r_J15_abs : mrt M_J15_abs = 7 := rfl
theorem l_J15_abs : mlc M_J15_abs = 2 := rfl
theorem h_J15_abs : mhh M_J15_abs = [] := rfl
theorem mt_259 : mt 259 = M_J15_max_2 := rfl
theorem o_J15_max_2 : mown M_J15_max_2 = 15 := rfl
theorem r_J15_max_2 : mrt M_J15_max_2 = 7 := rfl
theorem l_J15_max_2 : mlc M_J15_max_2 = 4 := rfl
theorem h_J15_max_2 : mhh M_J15_max_2 = [] := rfl
theorem mt_260 : mt 260 = M_X19_reckon := rfl
theorem o_X19_reckon : mown M_X19_reckon = 49 := rfl
theorem r_X19_reckon : mrt M_X19_reckon = 10 := rfl
theorem l_X19_reckon : mlc M_X19_reckon = 1 := rfl
theorem h_X19_reckon : mhh M_X19_reckon = [] := rfl
theorem mt_261 : mt 261 = M_X22_reckon := rfl
theorem o_X22_reckon : mown M_X22_reckon = 52 := rfl
theorem r_X22_reckon : mrt M_X22_reckon = 10 := rfl
theorem l_X22_reckon : mlc M_X22_reckon = 1 := rfl
theorem h_X22_reckon : mhh M_X22_reckon = [] := rfl
theorem mt_262 : mt 262 = M_X22_lower := rfl
theorem o_X22_lower : mown M_X22_lower = 52 := rfl
theorem r_X22_lower : mrt M_X22_lower = 7 := rfl
theorem l_X22_lower : mlc M_X22_lower = 2 := rfl
theorem h_X22_lower : mhh M_X22_lower = [] := rfl
theorem mt_263 : mt 263 = M_J15_sqrt := rfl
theorem o_J15_sqrt : mown M_J15_sqrt = 15 := rfl
theorem r_J15_sqrt : mrt M_J15_sqrt = 7 := rfl
theorem l_J15_sqrt : mlc M_J15_sqrt = 2 := rfl
theorem h_J15_sqrt : mhh M_J15_sqrt = [] := rfl
theorem mt_264 : mt 264 = M_J19_sqrt := rfl
theorem o_J19_sqrt : mown M_J19_sqrt = 19 := rfl
theorem r_J19_sqrt : mrt M_J19_sqrt = 7 := rfl
theorem l_J19_sqrt : mlc M_J19_sqrt = 2 := rfl
theorem h_J19_sqrt : mhh M_J19_sqrt = [] := rfl
theorem mt_265 : mt 265 = M_J24_compute := rfl
theorem o_J24_compute : mown M_J24_compute = 24 := rfl
theorem r_J24_compute : mrt M_J24_compute = 7 := rfl
theorem l_J24_compute : mlc M_J24_compute = 16 := rfl
theorem h_J24_compute : mhh M_J24_compute = [] := rfl
theorem mt_266 : mt 266 = M_J25___HI := rfl
theorem o_J25___HI : mown M_J25___HI = 25 := rfl
theorem r_J25___HI : mrt M_J25___HI = 0 := rfl
theorem l_J25___HI : mlc M_J25___HI = 4 := rfl
theorem h_J25___HI : mhh M_J25___HI = [] := rfl
theorem mt_267 : mt 267 = M_J25___LO := rfl
theorem o_J25___LO : mown M_J25___LO = 25 := rfl
theorem r_J25___LO : mrt M_J25___LO = 0 := rfl
theorem l_J25___LO : mlc M_J25___LO = 4 := rfl
theorem h_J25___LO : mhh M_J25___LO = [] := rfl
theorem mt_268 : mt 268 = M_J26_compareUnsigned := rfl
theorem o_J26_compareUnsigned : mown M_J26_compareUnsigned = 26 := rfl
theorem r_J26_compareUnsigned : mrt M_J26_compareUnsigned = 0 := rfl
theorem l_J26_compareUnsigned : mlc M_J26_compareUnsigned = 2 := rfl
theorem h_J26_compareUnsigned : mhh M_J26_compareUnsigned = [] := rfl
theorem mt_269 : mt 269 = M_J26_compare := rfl
theorem o_J26_compare : mown M_J26_compare = 26 := rfl
theorem r_J26_compare : mrt M_J26_compare = 0 := rfl
theorem l_J26_compare : mlc M_J26_compare = 2 := rfl
theorem h_J26_compare : mhh M_J26_compare = [] := rfl
theorem mt_270 : mt 270 = M_J25___HI_LO := rfl
theorem o_J25___HI_LO : mown M_J25___HI_LO = 25 := rfl
theorem r_J25___HI_LO : mrt M_J25___HI_LO = 7 := rfl
theorem l_J25___HI_LO : mlc M_J25___HI_LO = 2 := rfl
theorem h_J25___HI_LO : mhh M_J25___HI_LO = [] := rfl
theorem mt_271 : mt 271 = M_X14_low := rfl
theorem o_X14_low : mown M_X14_low = 44 := rfl
theorem r_X14_low : mrt M_X14_low = 7 := rfl
theorem l_X14_low : mlc M_X14_low = 2 := rfl
theorem h_X14_low : mhh M_X14_low = [] := rfl
theorem mt_272 : mt 272 = M_J15_nextDown_2 := rfl
theorem o_J15_nextDown_2 : mown M_J15_nextDown_2 = 15 := rfl
theorem r_J15_nextDown_2 : mrt M_J15_nextDown_2 = 7 := rfl
theorem l_J15_nextDown_2 : mlc M_J15_nextDown_2 = 2 := rfl
theorem h_J15_nextDown_2 : mhh M_J15_nextDown_2 = [] := rfl
theorem mt_273 : mt 273 = M_J20_isNaN := rfl
theorem o_J20_isNaN : mown M_J20_isNaN = 20 := rfl
theorem r_J20_isNaN : mrt M_J20_isNaN = 1 := rfl
theorem l_J20_isNaN : mlc M_J20_isNaN = 2 := rfl
theorem h_J20_isNaN : mhh M_J20_isNaN = [] := rfl
theorem mt_274 : mt 274 = M_X14_high := rfl
theorem o_X14_high : mown M_X14_high = 44 := rfl
theorem r_X14_high : mrt M_X14_high = 7 := rfl
theorem l_X14_high : mlc M_X14_high = 2 := rfl
theorem h_X14_high : mhh M_X14_high = [] := rfl
theorem mt_275 : mt 275 = M_J15_nextUp_2 := rfl
theorem o_J15_nextUp_2 : mown M_J15_nextUp_2 = 15 := rfl
theorem r_J15_nextUp_2 : mrt M_J15_nextUp_2 = 7 := rfl
theorem l_J15_nextUp_2 : mlc M_J15_nextUp_2 = 4 := rfl
theorem h_J15_nextUp_2 : mhh M_J15_nextUp_2 = [] := rfl
theorem mt_276 : mt 276 = M_X21_reckon := rfl
theorem o_X21_reckon : mown M_X21_reckon = 51 := rfl
theorem r_X21_reckon : mrt M_X21_reckon = 10 := rfl
theorem l_X21_reckon : mlc M_X21_reckon = 1 := rfl
theorem h_X21_reckon : mhh M_X21_reckon = [] := rfl
theorem mt_277 : mt 277 = M_X23_reckon := rfl
theorem o_X23_reckon : mown M_X23_reckon = 53 := rfl
theorem r_X23_reckon : mrt M_X23_reckon = 10 := rfl
theorem l_X23_reckon : mlc M_X23_reckon = 1 := rfl
theorem h_X23_reckon : mhh M_X23_reckon = [] := rfl
theorem mt_278 : mt 278 = M_X23_step := rfl
theorem o_X23_step : mown M_X23_step = 53 := rfl
theorem r_X23_step : mrt M_X23_step = 7 := rfl
theorem l_X23_step : mlc M_X23_step = 3 := rfl
theorem h_X23_step : mhh M_X23_step = [] := rfl
theorem mt_279 : mt 279 = M_J15_rint := rfl
theorem o_J15_rint : mown M_J15_rint = 15 := rfl
theorem r_J15_rint : mrt M_J15_rint = 7 := rfl
theorem l_J15_rint : mlc M_J15_rint = 2 := rfl
theorem h_J15_rint : mhh M_J15_rint = [] := rfl
theorem mt_280 : mt 280 = M_J19_rint := rfl
theorem o_J19_rint : mown M_J19_rint = 19 := rfl
theorem r_J19_rint : mrt M_J19_rint = 7 := rfl
theorem l_J19_rint : mlc M_J19_rint = 6 := rfl
theorem h_J19_rint : mhh M_J19_rint = [] := rfl
theorem mt_281 : mt 281 = M_J15_copySign := rfl
theorem o_J15_copySign : mown M_J15_copySign = 15 := rfl
theorem r_J15_copySign : mrt M_J15_copySign = 7 := rfl
theorem l_J15_copySign : mlc M_J15_copySign = 4 := rfl
theorem h_J15_copySign : mhh M_J15_copySign = [] := rfl
theorem mt_282 : mt 282 = M_J15_signum := rfl
theorem o_J15_signum : mown M_J15_signum = 15 := rfl
theorem r_J15_signum : mrt M_J15_signum = 7 := rfl
theorem l_J15_signum : mlc M_J15_signum = 2 := rfl
theorem h_J15_signum : mhh M_J15_signum = [] := rfl
theorem mt_283 : mt 283 = M_X26_reckon := rfl
theorem o_X26_reckon : mown M_X26_reckon = 56 := rfl
theorem r_X26_reckon : mrt M_X26_reckon = 10 := rfl
theorem l_X26_reckon : mlc M_X26_reckon = 1 := rfl
theorem h_X26_reckon : mhh M_X26_reckon = [] := rfl
theorem mt_284 : mt 284 = M_X30_reckon := rfl
theorem o_X30_reckon : mown M_X30_reckon = 60 := rfl
theorem r_X30_reckon : mrt M_X30_reckon = 10 := rfl
theorem l_X30_reckon : mlc M_X30_reckon = 1 := rfl
theorem h_X30_reckon : mhh M_X30_reckon = [] := rfl
theorem mt_285 : mt 285 = M_J15_min_2 := rfl
theorem o_J15_min_2 : mown M_J15_min_2 = 15 := rfl
theorem r_J15_min_2 : mrt M_J15_min_2 = 7 := rfl
theorem l_J15_min_2 : mlc M_J15_min_2 = 4 := rfl
theorem h_J15_min_2 : mhh M_J15_min_2 = [] := rfl
theorem mt_286 : mt 286 = M_X28_reckon := rfl
theorem o_X28_reckon : mown M_X28_reckon = 58 := rfl
theorem r_X28_reckon : mrt M_X28_reckon = 10 := rfl
theorem l_X28_reckon : mlc M_X28_reckon = 1 := rfl
theorem h_X28_reckon : mhh M_X28_reckon = [] := rfl
theorem mt_287 : mt 287 = M_X27_times := rfl
theorem o_X27_times : mown M_X27_times = 57 := rfl
theorem r_X27_times : mrt M_X27_times = 10 := rfl
theorem l_X27_times : mlc M_X27_times = 13 := rfl
theorem h_X27_times : mhh M_X27_times = [] := rfl
theorem mt_288 : mt 288 = M_X14_product := rfl
theorem o_X14_product : mown M_X14_product = 44 := rfl
theorem r_X14_product : mrt M_X14_product = 7 := rfl
theorem l_X14_product : mlc M_X14_product = 4 := rfl
theorem h_X14_product : mhh M_X14_product = [] := rfl
theorem mt_289 : mt 289 = M_X24_hull := rfl
theorem o_X24_hull : mown M_X24_hull = 54 := rfl
theorem r_X24_hull : mrt M_X24_hull = 10 := rfl
theorem l_X24_hull : mlc M_X24_hull = 9 := rfl
theorem h_X24_hull : mhh M_X24_hull = [] := rfl
theorem mt_290 : mt 290 = M_X27_keep := rfl
theorem o_X27_keep : mown M_X27_keep = 57 := rfl
theorem r_X27_keep : mrt M_X27_keep = 10 := rfl
theorem l_X27_keep : mlc M_X27_keep = 5 := rfl
theorem h_X27_keep : mhh M_X27_keep = [] := rfl
theorem mt_291 : mt 291 = M_X27_take := rfl
theorem o_X27_take : mown M_X27_take = 57 := rfl
theorem r_X27_take : mrt M_X27_take = 10 := rfl
theorem l_X27_take : mlc M_X27_take = 1 := rfl
theorem h_X27_take : mhh M_X27_take = [] := rfl
theorem mt_292 : mt 292 = M_X29_reckon := rfl
theorem o_X29_reckon : mown M_X29_reckon = 59 := rfl
theorem r_X29_reckon : mrt M_X29_reckon = 10 := rfl
theorem l_X29_reckon : mlc M_X29_reckon = 1 := rfl
theorem h_X29_reckon : mhh M_X29_reckon = [] := rfl
theorem mt_293 : mt 293 = M_X27_over := rfl
theorem o_X27_over : mown M_X27_over = 57 := rfl
theorem r_X27_over : mrt M_X27_over = 10 := rfl
theorem l_X27_over : mlc M_X27_over = 13 := rfl
theorem h_X27_over : mhh M_X27_over = [] := rfl
theorem mt_294 : mt 294 = M_X14_quotient := rfl
theorem o_X14_quotient : mown M_X14_quotient = 44 := rfl
theorem r_X14_quotient : mrt M_X14_quotient = 7 := rfl
theorem l_X14_quotient : mlc M_X14_quotient = 4 := rfl
theorem h_X14_quotient : mhh M_X14_quotient = [] := rfl
theorem mt_295 : mt 295 = M_X25_reckon := rfl
theorem o_X25_reckon : mown M_X25_reckon = 55 := rfl
theorem r_X25_reckon : mrt M_X25_reckon = 10 := rfl
theorem l_X25_reckon : mlc M_X25_reckon = 1 := rfl
theorem h_X25_reckon : mhh M_X25_reckon = [] := rfl
theorem mt_296 : mt 296 = M_X15_as := rfl
theorem o_X15_as : mown M_X15_as = 45 := rfl
theorem r_X15_as : mrt M_X15_as = 10 := rfl
theorem l_X15_as : mlc M_X15_as = 2 := rfl
theorem h_X15_as : mhh M_X15_as = [] := rfl
theorem mt_297 : mt 297 = M_X38_judge := rfl
theorem o_X38_judge : mown M_X38_judge = 68 := rfl
theorem r_X38_judge : mrt M_X38_judge = 10 := rfl
theorem l_X38_judge : mlc M_X38_judge = 4 := rfl
theorem h_X38_judge : mhh M_X38_judge = [] := rfl
theorem mt_298 : mt 298 = M_X38_judge_2 := rfl
theorem o_X38_judge_2 : mown M_X38_judge_2 = 68 := rfl
theorem r_X38_judge_2 : mrt M_X38_judge_2 = 10 := rfl
theorem l_X38_judge_2 : mlc M_X38_judge_2 = 4 := rfl
theorem h_X38_judge_2 : mhh M_X38_judge_2 = [] := rfl
theorem mt_299 : mt 299 = M_X38_bits := rfl
theorem o_X38_bits : mown M_X38_bits = 68 := rfl
theorem r_X38_bits : mrt M_X38_bits = 0 := rfl
theorem l_X38_bits : mlc M_X38_bits = 3 := rfl
theorem h_X38_bits : mhh M_X38_bits = [] := rfl
theorem mt_300 : mt 300 = M_X38_judge_3 := rfl
theorem o_X38_judge_3 : mown M_X38_judge_3 = 68 := rfl
theorem r_X38_judge_3 : mrt M_X38_judge_3 = 10 := rfl
theorem l_X38_judge_3 : mlc M_X38_judge_3 = 2 := rfl
theorem h_X38_judge_3 : mhh M_X38_judge_3 = [] := rfl
theorem mt_301 : mt 301 = M_X33_judge := rfl
theorem o_X33_judge : mown M_X33_judge = 63 := rfl
theorem r_X33_judge : mrt M_X33_judge = 10 := rfl
theorem l_X33_judge : mlc M_X33_judge = 3 := rfl
theorem h_X33_judge : mhh M_X33_judge = [] := rfl
theorem mt_302 : mt 302 = M_X15_hasMeet := rfl
theorem o_X15_hasMeet : mown M_X15_hasMeet = 45 := rfl
theorem r_X15_hasMeet : mrt M_X15_hasMeet = 1 := rfl
theorem l_X15_hasMeet : mlc M_X15_hasMeet = 2 := rfl
theorem h_X15_hasMeet : mhh M_X15_hasMeet = [] := rfl
theorem mt_303 : mt 303 = M_X33_isOne := rfl
theorem o_X33_isOne : mown M_X33_isOne = 63 := rfl
theorem r_X33_isOne : mrt M_X33_isOne = 1 := rfl
theorem l_X33_isOne : mlc M_X33_isOne = 2 := rfl
theorem h_X33_isOne : mhh M_X33_isOne = [] := rfl
theorem mt_304 : mt 304 = M_J26_bitCount := rfl
theorem o_J26_bitCount : mown M_J26_bitCount = 26 := rfl
theorem r_J26_bitCount : mrt M_J26_bitCount = 0 := rfl
theorem l_J26_bitCount : mlc M_J26_bitCount = 1 := rfl
theorem h_J26_bitCount : mhh M_J26_bitCount = [] := rfl
theorem mt_305 : mt 305 = M_X35_judge := rfl
theorem o_X35_judge : mown M_X35_judge = 65 := rfl
theorem r_X35_judge : mrt M_X35_judge = 10 := rfl
theorem l_X35_judge : mlc M_X35_judge = 1 := rfl
theorem h_X35_judge : mhh M_X35_judge = [] := rfl
theorem mt_306 : mt 306 = M_X34_judge := rfl
theorem o_X34_judge : mown M_X34_judge = 64 := rfl
theorem r_X34_judge : mrt M_X34_judge = 10 := rfl
theorem l_X34_judge : mlc M_X34_judge = 3 := rfl
theorem h_X34_judge : mhh M_X34_judge = [] := rfl
theorem mt_307 : mt 307 = M_X15_meets := rfl
theorem o_X15_meets : mown M_X15_meets = 45 := rfl
theorem r_X15_meets : mrt M_X15_meets = 10 := rfl
theorem l_X15_meets : mlc M_X15_meets = 3 := rfl
theorem h_X15_meets : mhh M_X15_meets = [] := rfl
theorem mt_308 : mt 308 = M_X32_enter := rfl
theorem o_X32_enter : mown M_X32_enter = 62 := rfl
theorem r_X32_enter : mrt M_X32_enter = 10 := rfl
theorem l_X32_enter : mlc M_X32_enter = 2 := rfl
theorem h_X32_enter : mhh M_X32_enter = [] := rfl
theorem mt_309 : mt 309 = M_X33_hand := rfl
theorem o_X33_hand : mown M_X33_hand = 63 := rfl
theorem r_X33_hand : mrt M_X33_hand = 10 := rfl
theorem l_X33_hand : mlc M_X33_hand = 1 := rfl
theorem h_X33_hand : mhh M_X33_hand = [] := rfl
theorem mt_310 : mt 310 = M_X15_meets_2 := rfl
theorem o_X15_meets_2 : mown M_X15_meets_2 = 45 := rfl
theorem r_X15_meets_2 : mrt M_X15_meets_2 = 10 := rfl
theorem l_X15_meets_2 : mlc M_X15_meets_2 = 2 := rfl
theorem h_X15_meets_2 : mhh M_X15_meets_2 = [] := rfl
theorem mt_311 : mt 311 = M_X15_meet := rfl
theorem o_X15_meet : mown M_X15_meet = 45 := rfl
theorem r_X15_meet : mrt M_X15_meet = 10 := rfl
theorem l_X15_meet : mlc M_X15_meet = 5 := rfl
theorem h_X15_meet : mhh M_X15_meet = [] := rfl
theorem mt_312 : mt 312 = M_X15_meets_3 := rfl
theorem o_X15_meets_3 : mown M_X15_meets_3 = 45 := rfl
theorem r_X15_meets_3 : mrt M_X15_meets_3 = 10 := rfl
theorem l_X15_meets_3 : mlc M_X15_meets_3 = 2 := rfl
theorem h_X15_meets_3 : mhh M_X15_meets_3 = [] := rfl
theorem mt_313 : mt 313 = M_X33_loses := rfl
theorem o_X33_loses : mown M_X33_loses = 63 := rfl
theorem r_X33_loses : mrt M_X33_loses = 10 := rfl
theorem l_X33_loses : mlc M_X33_loses = 3 := rfl
theorem h_X33_loses : mhh M_X33_loses = [] := rfl
theorem mt_314 : mt 314 = M_X17_lose := rfl
theorem o_X17_lose : mown M_X17_lose = 47 := rfl
theorem r_X17_lose : mrt M_X17_lose = 10 := rfl
theorem l_X17_lose : mlc M_X17_lose = 3 := rfl
theorem h_X17_lose : mhh M_X17_lose = [] := rfl
theorem mt_315 : mt 315 = M_X10_lose := rfl
theorem o_X10_lose : mown M_X10_lose = 40 := rfl
theorem r_X10_lose : mrt M_X10_lose = 10 := rfl
theorem l_X10_lose : mlc M_X10_lose = 5 := rfl
theorem h_X10_lose : mhh M_X10_lose = [] := rfl
theorem mt_316 : mt 316 = M_X15_lose := rfl
theorem o_X15_lose : mown M_X15_lose = 45 := rfl
theorem r_X15_lose : mrt M_X15_lose = 10 := rfl
theorem l_X15_lose : mlc M_X15_lose = 3 := rfl
theorem h_X15_lose : mhh M_X15_lose = [] := rfl
theorem mt_317 : mt 317 = M_X35_hand := rfl
theorem o_X35_hand : mown M_X35_hand = 65 := rfl
theorem r_X35_hand : mrt M_X35_hand = 10 := rfl
theorem l_X35_hand : mlc M_X35_hand = 1 := rfl
theorem h_X35_hand : mhh M_X35_hand = [] := rfl
theorem mt_318 : mt 318 = M_X35_both := rfl
theorem o_X35_both : mown M_X35_both = 65 := rfl
theorem r_X35_both : mrt M_X35_both = 10 := rfl
theorem l_X35_both : mlc M_X35_both = 1 := rfl
theorem h_X35_both : mhh M_X35_both = [] := rfl
theorem mt_319 : mt 319 = M_X35_either := rfl
theorem o_X35_either : mown M_X35_either = 65 := rfl
theorem r_X35_either : mrt M_X35_either = 10 := rfl
theorem l_X35_either : mlc M_X35_either = 1 := rfl
theorem h_X35_either : mhh M_X35_either = [] := rfl
theorem mt_320 : mt 320 = M_X35_follows := rfl
theorem o_X35_follows : mown M_X35_follows = 65 := rfl
theorem r_X35_follows : mrt M_X35_follows = 10 := rfl
theorem l_X35_follows : mlc M_X35_follows = 1 := rfl
theorem h_X35_follows : mhh M_X35_follows = [] := rfl
theorem mt_321 : mt 321 = M_X34_hand := rfl
theorem o_X34_hand : mown M_X34_hand = 64 := rfl
theorem r_X34_hand : mrt M_X34_hand = 10 := rfl
theorem l_X34_hand : mlc M_X34_hand = 1 := rfl
theorem h_X34_hand : mhh M_X34_hand = [] := rfl
theorem mt_322 : mt 322 = M_X31_enter := rfl
theorem o_X31_enter : mown M_X31_enter = 61 := rfl
theorem r_X31_enter : mrt M_X31_enter = 10 := rfl
theorem l_X31_enter : mlc M_X31_enter = 2 := rfl
theorem h_X31_enter : mhh M_X31_enter = [] := rfl
theorem mt_323 : mt 323 = M_X15_enter := rfl
theorem o_X15_enter : mown M_X15_enter = 45 := rfl
theorem r_X15_enter : mrt M_X15_enter = 10 := rfl
theorem l_X15_enter : mlc M_X15_enter = 2 := rfl
theorem h_X15_enter : mhh M_X15_enter = [] := rfl
theorem mt_324 : mt 324 = M_X38_backwards := rfl
theorem o_X38_backwards : mown M_X38_backwards = 68 := rfl
theorem r_X38_backwards : mrt M_X38_backwards = 10 := rfl
theorem l_X38_backwards : mlc M_X38_backwards = 2 := rfl
theorem h_X38_backwards : mhh M_X38_backwards = [] := rfl
theorem mt_325 : mt 325 = M_X38_hand := rfl
theorem o_X38_hand : mown M_X38_hand = 68 := rfl
theorem r_X38_hand : mrt M_X38_hand = 10 := rfl
theorem l_X38_hand : mlc M_X38_hand = 7 := rfl
theorem h_X38_hand : mhh M_X38_hand = [] := rfl
theorem mt_326 : mt 326 = M_X17_lose_2 := rfl
theorem o_X17_lose_2 : mown M_X17_lose_2 = 47 := rfl
theorem r_X17_lose_2 : mrt M_X17_lose_2 = 10 := rfl
theorem l_X17_lose_2 : mlc M_X17_lose_2 = 2 := rfl
theorem h_X17_lose_2 : mhh M_X17_lose_2 = [] := rfl
theorem mt_327 : mt 327 = M_X10_lose_2 := rfl
theorem o_X10_lose_2 : mown M_X10_lose_2 = 40 := rfl
theorem r_X10_lose_2 : mrt M_X10_lose_2 = 10 := rfl
theorem l_X10_lose_2 : mlc M_X10_lose_2 = 5 := rfl
theorem h_X10_lose_2 : mhh M_X10_lose_2 = [] := rfl
theorem mt_328 : mt 328 = M_X10_isIn := rfl
theorem o_X10_isIn : mown M_X10_isIn = 40 := rfl
theorem r_X10_isIn : mrt M_X10_isIn = 1 := rfl
theorem l_X10_isIn : mlc M_X10_isIn = 4 := rfl
theorem h_X10_isIn : mhh M_X10_isIn = [] := rfl
theorem mt_329 : mt 329 = M_X15_lose_2 := rfl
theorem o_X15_lose_2 : mown M_X15_lose_2 = 45 := rfl
theorem r_X15_lose_2 : mrt M_X15_lose_2 = 10 := rfl
theorem l_X15_lose_2 : mlc M_X15_lose_2 = 2 := rfl
theorem h_X15_lose_2 : mhh M_X15_lose_2 = [] := rfl
theorem mt_330 : mt 330 = M_X38_hand_2 := rfl
theorem o_X38_hand_2 : mown M_X38_hand_2 = 68 := rfl
theorem r_X38_hand_2 : mrt M_X38_hand_2 = 10 := rfl
theorem l_X38_hand_2 : mlc M_X38_hand_2 = 2 := rfl
theorem h_X38_hand_2 : mhh M_X38_hand_2 = [] := rfl
theorem mt_331 : mt 331 = M_X37_enter := rfl
theorem o_X37_enter : mown M_X37_enter = 67 := rfl
theorem r_X37_enter : mrt M_X37_enter = 10 := rfl
theorem l_X37_enter : mlc M_X37_enter = 2 := rfl
theorem h_X37_enter : mhh M_X37_enter = [] := rfl
theorem mt_332 : mt 332 = M_X24_enter := rfl
theorem o_X24_enter : mown M_X24_enter = 54 := rfl
theorem r_X24_enter : mrt M_X24_enter = 10 := rfl
theorem l_X24_enter : mlc M_X24_enter = 2 := rfl
theorem h_X24_enter : mhh M_X24_enter = [] := rfl
theorem mt_333 : mt 333 = M_X26_hand := rfl
theorem o_X26_hand : mown M_X26_hand = 56 := rfl
theorem r_X26_hand : mrt M_X26_hand = 10 := rfl
theorem l_X26_hand : mlc M_X26_hand = 1 := rfl
theorem h_X26_hand : mhh M_X26_hand = [] := rfl
theorem mt_334 : mt 334 = M_X30_hand := rfl
theorem o_X30_hand : mown M_X30_hand = 60 := rfl
theorem r_X30_hand : mrt M_X30_hand = 10 := rfl
theorem l_X30_hand : mlc M_X30_hand = 1 := rfl
theorem h_X30_hand : mhh M_X30_hand = [] := rfl
theorem mt_335 : mt 335 = M_X28_hand := rfl
theorem o_X28_hand : mown M_X28_hand = 58 := rfl
theorem r_X28_hand : mrt M_X28_hand = 10 := rfl
theorem l_X28_hand : mlc M_X28_hand = 2 := rfl
theorem h_X28_hand : mhh M_X28_hand = [] := rfl
theorem mt_336 : mt 336 = M_X41_shares := rfl
theorem o_X41_shares : mown M_X41_shares = 71 := rfl
theorem r_X41_shares : mrt M_X41_shares = 10 := rfl
theorem l_X41_shares : mlc M_X41_shares = 4 := rfl
theorem h_X41_shares : mhh M_X41_shares = [] := rfl
theorem mt_337 : mt 337 = M_X28_share := rfl
theorem o_X28_share : mown M_X28_share = 58 := rfl
theorem r_X28_share : mrt M_X28_share = 10 := rfl
theorem l_X28_share : mlc M_X28_share = 4 := rfl
theorem h_X28_share : mhh M_X28_share = [] := rfl
theorem mt_338 : mt 338 = M_X27_to := rfl
theorem o_X27_to : mown M_X27_to = 57 := rfl
theorem r_X27_to : mrt M_X27_to = 10 := rfl
theorem l_X27_to : mlc M_X27_to = 2 := rfl
theorem h_X27_to : mhh M_X27_to = [] := rfl
theorem mt_339 : mt 339 = M_X25_share := rfl
theorem o_X25_share : mown M_X25_share = 55 := rfl
theorem r_X25_share : mrt M_X25_share = 10 := rfl
theorem l_X25_share : mlc M_X25_share = 4 := rfl
theorem h_X25_share : mhh M_X25_share = [] := rfl
theorem mt_340 : mt 340 = M_X29_hand := rfl
theorem o_X29_hand : mown M_X29_hand = 59 := rfl
theorem r_X29_hand : mrt M_X29_hand = 10 := rfl
theorem l_X29_hand : mlc M_X29_hand = 1 := rfl
theorem h_X29_hand : mhh M_X29_hand = [] := rfl
theorem mt_341 : mt 341 = M_X25_hand := rfl
theorem o_X25_hand : mown M_X25_hand = 55 := rfl
theorem r_X25_hand : mrt M_X25_hand = 10 := rfl
theorem l_X25_hand : mlc M_X25_hand = 2 := rfl
theorem h_X25_hand : mhh M_X25_hand = [] := rfl
theorem mt_342 : mt 342 = M_X17_enter := rfl
theorem o_X17_enter : mown M_X17_enter = 47 := rfl
theorem r_X17_enter : mrt M_X17_enter = 10 := rfl
theorem l_X17_enter : mlc M_X17_enter = 2 := rfl
theorem h_X17_enter : mhh M_X17_enter = [] := rfl
theorem mt_343 : mt 343 = M_X37_backwards := rfl
theorem o_X37_backwards : mown M_X37_backwards = 67 := rfl
theorem r_X37_backwards : mrt M_X37_backwards = 10 := rfl
theorem l_X37_backwards : mlc M_X37_backwards = 2 := rfl
theorem h_X37_backwards : mhh M_X37_backwards = [] := rfl
theorem mt_344 : mt 344 = M_X17_backwards := rfl
theorem o_X17_backwards : mown M_X17_backwards = 47 := rfl
theorem r_X17_backwards : mrt M_X17_backwards = 10 := rfl
theorem l_X17_backwards : mlc M_X17_backwards = 2 := rfl
theorem h_X17_backwards : mhh M_X17_backwards = [] := rfl
theorem mt_345 : mt 345 = M_X8_keep := rfl
theorem o_X8_keep : mown M_X8_keep = 38 := rfl
theorem r_X8_keep : mrt M_X8_keep = 10 := rfl
theorem l_X8_keep : mlc M_X8_keep = 9 := rfl
theorem h_X8_keep : mhh M_X8_keep = [] := rfl
theorem mt_346 : mt 346 = M_X9_keep := rfl
theorem o_X9_keep : mown M_X9_keep = 39 := rfl
theorem r_X9_keep : mrt M_X9_keep = 10 := rfl
theorem l_X9_keep : mlc M_X9_keep = 7 := rfl
theorem h_X9_keep : mhh M_X9_keep = [] := rfl
theorem mt_347 : mt 347 = M_X10_keep := rfl
theorem o_X10_keep : mown M_X10_keep = 40 := rfl
theorem r_X10_keep : mrt M_X10_keep = 10 := rfl
theorem l_X10_keep : mlc M_X10_keep = 7 := rfl
theorem h_X10_keep : mhh M_X10_keep = [] := rfl
theorem mt_348 : mt 348 = M_X11_keep := rfl
theorem o_X11_keep : mown M_X11_keep = 41 := rfl
theorem r_X11_keep : mrt M_X11_keep = 10 := rfl
theorem l_X11_keep : mlc M_X11_keep = 5 := rfl
theorem h_X11_keep : mhh M_X11_keep = [] := rfl
theorem mt_349 : mt 349 = M_X12_keep := rfl
theorem o_X12_keep : mown M_X12_keep = 42 := rfl
theorem r_X12_keep : mrt M_X12_keep = 10 := rfl
theorem l_X12_keep : mlc M_X12_keep = 4 := rfl
theorem h_X12_keep : mhh M_X12_keep = [] := rfl
theorem mt_350 : mt 350 = M_X18_backwards := rfl
theorem o_X18_backwards : mown M_X18_backwards = 48 := rfl
theorem r_X18_backwards : mrt M_X18_backwards = 10 := rfl
theorem l_X18_backwards : mlc M_X18_backwards = 2 := rfl
theorem h_X18_backwards : mhh M_X18_backwards = [] := rfl
theorem mt_351 : mt 351 = M_X20_hand := rfl
theorem o_X20_hand : mown M_X20_hand = 50 := rfl
theorem r_X20_hand : mrt M_X20_hand = 10 := rfl
theorem l_X20_hand : mlc M_X20_hand = 1 := rfl
theorem h_X20_hand : mhh M_X20_hand = [] := rfl
theorem mt_352 : mt 352 = M_X20_mirrored := rfl
theorem o_X20_mirrored : mown M_X20_mirrored = 50 := rfl
theorem r_X20_mirrored : mrt M_X20_mirrored = 10 := rfl
theorem l_X20_mirrored : mlc M_X20_mirrored = 5 := rfl
theorem h_X20_mirrored : mhh M_X20_mirrored = [] := rfl
theorem mt_353 : mt 353 = M_X19_hand := rfl
theorem o_X19_hand : mown M_X19_hand = 49 := rfl
theorem r_X19_hand : mrt M_X19_hand = 10 := rfl
theorem l_X19_hand : mlc M_X19_hand = 1 := rfl
theorem h_X19_hand : mhh M_X19_hand = [] := rfl
theorem mt_354 : mt 354 = M_X22_hand := rfl
theorem o_X22_hand : mown M_X22_hand = 52 := rfl
theorem r_X22_hand : mrt M_X22_hand = 10 := rfl
theorem l_X22_hand : mlc M_X22_hand = 3 := rfl
theorem h_X22_hand : mhh M_X22_hand = [] := rfl
theorem mt_355 : mt 355 = M_X21_hand := rfl
theorem o_X21_hand : mown M_X21_hand = 51 := rfl
theorem r_X21_hand : mrt M_X21_hand = 10 := rfl
theorem l_X21_hand : mlc M_X21_hand = 1 := rfl
theorem h_X21_hand : mhh M_X21_hand = [] := rfl
theorem mt_356 : mt 356 = M_X23_hand := rfl
theorem o_X23_hand : mown M_X23_hand = 53 := rfl
theorem r_X23_hand : mrt M_X23_hand = 10 := rfl
theorem l_X23_hand : mlc M_X23_hand = 5 := rfl
theorem h_X23_hand : mhh M_X23_hand = [] := rfl
theorem mt_357 : mt 357 = M_X36_backwards := rfl
theorem o_X36_backwards : mown M_X36_backwards = 66 := rfl
theorem r_X36_backwards : mrt M_X36_backwards = 10 := rfl
theorem l_X36_backwards : mlc M_X36_backwards = 2 := rfl
theorem h_X36_backwards : mhh M_X36_backwards = [] := rfl
theorem mt_358 : mt 358 = M_X15_backwards := rfl
theorem o_X15_backwards : mown M_X15_backwards = 45 := rfl
theorem r_X15_backwards : mrt M_X15_backwards = 10 := rfl
theorem l_X15_backwards : mlc M_X15_backwards = 2 := rfl
theorem h_X15_backwards : mhh M_X15_backwards = [] := rfl
theorem mt_359 : mt 359 = M_X3_isLess := rfl
theorem o_X3_isLess : mown M_X3_isLess = 33 := rfl
theorem r_X3_isLess : mrt M_X3_isLess = 1 := rfl
theorem l_X3_isLess : mlc M_X3_isLess = 10 := rfl
theorem h_X3_isLess : mhh M_X3_isLess = [] := rfl
theorem mt_360 : mt 360 = M_X1_search := rfl
theorem o_X1_search : mown M_X1_search = 31 := rfl
theorem r_X1_search : mrt M_X1_search = 1 := rfl
theorem l_X1_search : mlc M_X1_search = 2 := rfl
theorem h_X1_search : mhh M_X1_search = [] := rfl
theorem mt_361 : mt 361 = M_X3_search := rfl
theorem o_X3_search : mown M_X3_search = 33 := rfl
theorem r_X3_search : mrt M_X3_search = 1 := rfl
theorem l_X3_search : mlc M_X3_search = 2 := rfl
theorem h_X3_search : mhh M_X3_search = [] := rfl
theorem mt_362 : mt 362 = M_X3_save := rfl
theorem o_X3_save : mown M_X3_save = 33 := rfl
theorem r_X3_save : mrt M_X3_save = 10 := rfl
theorem l_X3_save : mlc M_X3_save = 6 := rfl
theorem h_X3_save : mhh M_X3_save = [] := rfl
theorem mt_363 : mt 363 = M_X6_without := rfl
theorem o_X6_without : mown M_X6_without = 36 := rfl
theorem r_X6_without : mrt M_X6_without = 8 := rfl
theorem l_X6_without : mlc M_X6_without = 0 := rfl
theorem h_X6_without : mhh M_X6_without = [] := rfl
theorem mt_364 : mt 364 = M_J27_init := rfl
theorem o_J27_init : mown M_J27_init = 27 := rfl
theorem r_J27_init : mrt M_J27_init = 9 := rfl
theorem l_J27_init : mlc M_J27_init = 1 := rfl
theorem h_J27_init : mhh M_J27_init = [] := rfl
theorem mt_365 : mt 365 = M_J8_init_2 := rfl
theorem o_J8_init_2 : mown M_J8_init_2 = 8 := rfl
theorem r_J8_init_2 : mrt M_J8_init_2 = 9 := rfl
theorem l_J8_init_2 : mlc M_J8_init_2 = 1 := rfl
theorem h_J8_init_2 : mhh M_J8_init_2 = [] := rfl
theorem mt_366 : mt 366 = M_J20_doubleToLongBits := rfl
theorem o_J20_doubleToLongBits : mown M_J20_doubleToLongBits = 20 := rfl
theorem r_J20_doubleToLongBits : mrt M_J20_doubleToLongBits = 5 := rfl
theorem l_J20_doubleToLongBits : mlc M_J20_doubleToLongBits = 2 := rfl
theorem h_J20_doubleToLongBits : mhh M_J20_doubleToLongBits = [] := rfl
theorem mt_367 : mt 367 = M_J18_floatToIntBits := rfl
theorem o_J18_floatToIntBits : mown M_J18_floatToIntBits = 18 := rfl
theorem r_J18_floatToIntBits : mrt M_J18_floatToIntBits = 0 := rfl
theorem l_J18_floatToIntBits : mlc M_J18_floatToIntBits = 1 := rfl
theorem h_J18_floatToIntBits : mhh M_J18_floatToIntBits = [] := rfl
theorem mt_368 : mt 368 = M_X1_steps := rfl
theorem o_X1_steps : mown M_X1_steps = 31 := rfl
theorem r_X1_steps : mrt M_X1_steps = 0 := rfl
theorem l_X1_steps : mlc M_X1_steps = 2 := rfl
theorem h_X1_steps : mhh M_X1_steps = [] := rfl
theorem mt_369 : mt 369 = M_X3_steps := rfl
theorem o_X3_steps : mown M_X3_steps = 33 := rfl
theorem r_X3_steps : mrt M_X3_steps = 0 := rfl
theorem l_X3_steps : mlc M_X3_steps = 4 := rfl
theorem h_X3_steps : mhh M_X3_steps = [] := rfl
theorem mt_370 : mt 370 = M_X3_aims := rfl
theorem o_X3_aims : mown M_X3_aims = 33 := rfl
theorem r_X3_aims : mrt M_X3_aims = 10 := rfl
theorem l_X3_aims : mlc M_X3_aims = 2 := rfl
theorem h_X3_aims : mhh M_X3_aims = [] := rfl
theorem mt_371 : mt 371 = M_X12_isFixed := rfl
theorem o_X12_isFixed : mown M_X12_isFixed = 42 := rfl
theorem r_X12_isFixed : mrt M_X12_isFixed = 1 := rfl
theorem l_X12_isFixed : mlc M_X12_isFixed = 3 := rfl
theorem h_X12_isFixed : mhh M_X12_isFixed = [] := rfl
theorem mt_372 : mt 372 = M_X8_isFixed := rfl
theorem o_X8_isFixed : mown M_X8_isFixed = 38 := rfl
theorem r_X8_isFixed : mrt M_X8_isFixed = 1 := rfl
theorem l_X8_isFixed : mlc M_X8_isFixed = 3 := rfl
theorem h_X8_isFixed : mhh M_X8_isFixed = [] := rfl
theorem mt_373 : mt 373 = M_X9_isFixed := rfl
theorem o_X9_isFixed : mown M_X9_isFixed = 39 := rfl
theorem r_X9_isFixed : mrt M_X9_isFixed = 1 := rfl
theorem l_X9_isFixed : mlc M_X9_isFixed = 3 := rfl
theorem h_X9_isFixed : mhh M_X9_isFixed = [] := rfl
theorem mt_374 : mt 374 = M_X11_isFixed := rfl
theorem o_X11_isFixed : mown M_X11_isFixed = 41 := rfl
theorem r_X11_isFixed : mrt M_X11_isFixed = 1 := rfl
theorem l_X11_isFixed : mlc M_X11_isFixed = 3 := rfl
theorem h_X11_isFixed : mhh M_X11_isFixed = [] := rfl
theorem mt_375 : mt 375 = M_X10_isFixed := rfl
theorem o_X10_isFixed : mown M_X10_isFixed = 40 := rfl
theorem r_X10_isFixed : mrt M_X10_isFixed = 1 := rfl
theorem l_X10_isFixed : mlc M_X10_isFixed = 3 := rfl
theorem h_X10_isFixed : mhh M_X10_isFixed = [] := rfl
theorem mt_376 : mt 376 = M_X3_box := rfl
theorem o_X3_box : mown M_X3_box = 33 := rfl
theorem r_X3_box : mrt M_X3_box = 0 := rfl
theorem l_X3_box : mlc M_X3_box = 3 := rfl
theorem h_X3_box : mhh M_X3_box = [] := rfl
theorem mt_377 : mt 377 = M_X3_keeps := rfl
theorem o_X3_keeps : mown M_X3_keeps = 33 := rfl
theorem r_X3_keeps : mrt M_X3_keeps = 10 := rfl
theorem l_X3_keeps : mlc M_X3_keeps = 1 := rfl
theorem h_X3_keeps : mhh M_X3_keeps = [] := rfl
theorem mt_378 : mt 378 = M_X3_split := rfl
theorem o_X3_split : mown M_X3_split = 33 := rfl
theorem r_X3_split : mrt M_X3_split = 10 := rfl
theorem l_X3_split : mlc M_X3_split = 9 := rfl
theorem h_X3_split : mhh M_X3_split = [] := rfl
theorem mt_379 : mt 379 = M_X3_middle := rfl
theorem o_X3_middle : mown M_X3_middle = 33 := rfl
theorem r_X3_middle : mrt M_X3_middle = 7 := rfl
theorem l_X3_middle : mlc M_X3_middle = 4 := rfl
theorem h_X3_middle : mhh M_X3_middle = [] := rfl
theorem mt_380 : mt 380 = M_X10_only := rfl
theorem o_X10_only : mown M_X10_only = 40 := rfl
theorem r_X10_only : mrt M_X10_only = 10 := rfl
theorem l_X10_only : mlc M_X10_only = 2 := rfl
theorem h_X10_only : mhh M_X10_only = [] := rfl
theorem mt_381 : mt 381 = M_J26_numberOfTrailingZeros := rfl
theorem o_J26_numberOfTrailingZeros : mown M_J26_numberOfTrailingZeros = 26 := rfl
theorem r_J26_numberOfTrailingZeros : mrt M_J26_numberOfTrailingZeros = 0 := rfl
theorem l_J26_numberOfTrailingZeros : mlc M_J26_numberOfTrailingZeros = 2 := rfl
theorem h_J26_numberOfTrailingZeros : mhh M_J26_numberOfTrailingZeros = [] := rfl
theorem mt_382 : mt 382 = M_X12_only := rfl
theorem o_X12_only : mown M_X12_only = 42 := rfl
theorem r_X12_only : mrt M_X12_only = 10 := rfl
theorem l_X12_only : mlc M_X12_only = 2 := rfl
theorem h_X12_only : mhh M_X12_only = [] := rfl
theorem mt_383 : mt 383 = M_X3_over := rfl
theorem o_X3_over : mown M_X3_over = 33 := rfl
theorem r_X3_over : mrt M_X3_over = 0 := rfl
theorem l_X3_over : mlc M_X3_over = 2 := rfl
theorem h_X3_over : mhh M_X3_over = [] := rfl
theorem mt_384 : mt 384 = M_X1_end := rfl
theorem o_X1_end : mown M_X1_end = 31 := rfl
theorem r_X1_end : mrt M_X1_end = 1 := rfl
theorem l_X1_end : mlc M_X1_end = 1 := rfl
theorem h_X1_end : mhh M_X1_end = [] := rfl
theorem mt_385 : mt 385 = M_X1_look := rfl
theorem o_X1_look : mown M_X1_look = 31 := rfl
theorem r_X1_look : mrt M_X1_look = 0 := rfl
theorem l_X1_look : mlc M_X1_look = 2 := rfl
theorem h_X1_look : mhh M_X1_look = [] := rfl
theorem mt_386 : mt 386 = M_X3_nodes := rfl
theorem o_X3_nodes : mown M_X3_nodes = 33 := rfl
theorem r_X3_nodes : mrt M_X3_nodes = 0 := rfl
theorem l_X3_nodes : mlc M_X3_nodes = 1 := rfl
theorem h_X3_nodes : mhh M_X3_nodes = [] := rfl
theorem mt_387 : mt 387 = M_X1_count := rfl
theorem o_X1_count : mown M_X1_count = 31 := rfl
theorem r_X1_count : mrt M_X1_count = 0 := rfl
theorem l_X1_count : mlc M_X1_count = 2 := rfl
theorem h_X1_count : mhh M_X1_count = [] := rfl
theorem mt_388 : mt 388 = M_X1_sort := rfl
theorem o_X1_sort : mown M_X1_sort = 31 := rfl
theorem r_X1_sort : mrt M_X1_sort = 0 := rfl
theorem l_X1_sort : mlc M_X1_sort = 2 := rfl
theorem h_X1_sort : mhh M_X1_sort = [] := rfl
theorem mt_389 : mt 389 = M_X1_variable := rfl
theorem o_X1_variable : mown M_X1_variable = 31 := rfl
theorem r_X1_variable : mrt M_X1_variable = 8 := rfl
theorem l_X1_variable : mlc M_X1_variable = 2 := rfl
theorem h_X1_variable : mhh M_X1_variable = [] := rfl
theorem mt_390 : mt 390 = M_J28_init := rfl
theorem o_J28_init : mown M_J28_init = 28 := rfl
theorem r_J28_init : mrt M_J28_init = 9 := rfl
theorem l_J28_init : mlc M_J28_init = 1 := rfl
theorem h_J28_init : mhh M_J28_init = [] := rfl
theorem mt_391 : mt 391 = M_X1_size := rfl
theorem o_X1_size : mown M_X1_size = 31 := rfl
theorem r_X1_size : mrt M_X1_size = 0 := rfl
theorem l_X1_size : mlc M_X1_size = 3 := rfl
theorem h_X1_size : mhh M_X1_size = [] := rfl
theorem mt_392 : mt 392 = M_X1_toldOf := rfl
theorem o_X1_toldOf : mown M_X1_toldOf = 31 := rfl
theorem r_X1_toldOf : mrt M_X1_toldOf = 0 := rfl
theorem l_X1_toldOf : mlc M_X1_toldOf = 1 := rfl
theorem h_X1_toldOf : mhh M_X1_toldOf = [] := rfl
theorem mt_393 : mt 393 = M_X40_told := rfl
theorem o_X40_told : mown M_X40_told = 70 := rfl
theorem r_X40_told : mrt M_X40_told = 0 := rfl
theorem l_X40_told : mlc M_X40_told = 1 := rfl
theorem h_X40_told : mhh M_X40_told = [] := rfl
theorem mt_394 : mt 394 = M_X1_thing := rfl
theorem o_X1_thing : mown M_X1_thing = 31 := rfl
theorem r_X1_thing : mrt M_X1_thing = 5 := rfl
theorem l_X1_thing : mlc M_X1_thing = 3 := rfl
theorem h_X1_thing : mhh M_X1_thing = [] := rfl
theorem mt_395 : mt 395 = M_X1_rowAt := rfl
theorem o_X1_rowAt : mown M_X1_rowAt = 31 := rfl
theorem r_X1_rowAt : mrt M_X1_rowAt = 8 := rfl
theorem l_X1_rowAt : mlc M_X1_rowAt = 2 := rfl
theorem h_X1_rowAt : mhh M_X1_rowAt = [] := rfl
theorem mt_396 : mt 396 = M_X1_rule := rfl
theorem o_X1_rule : mown M_X1_rule = 31 := rfl
theorem r_X1_rule : mrt M_X1_rule = 0 := rfl
theorem l_X1_rule : mlc M_X1_rule = 2 := rfl
theorem h_X1_rule : mhh M_X1_rule = [] := rfl
theorem mt_397 : mt 397 = M_X1_aim := rfl
theorem o_X1_aim : mown M_X1_aim = 31 := rfl
theorem r_X1_aim : mrt M_X1_aim = 5 := rfl
theorem l_X1_aim : mlc M_X1_aim = 3 := rfl
theorem h_X1_aim : mhh M_X1_aim = [] := rfl
theorem mt_398 : mt 398 = M_X1_best := rfl
theorem o_X1_best : mown M_X1_best = 31 := rfl
theorem r_X1_best : mrt M_X1_best = 5 := rfl
theorem l_X1_best : mlc M_X1_best = 3 := rfl
theorem h_X1_best : mhh M_X1_best = [] := rfl
theorem mt_399 : mt 399 = M_X13_thrown := rfl
theorem o_X13_thrown : mown M_X13_thrown = 43 := rfl
theorem r_X13_thrown : mrt M_X13_thrown = 0 := rfl
theorem l_X13_thrown : mlc M_X13_thrown = 1 := rfl
theorem h_X13_thrown : mhh M_X13_thrown = [] := rfl
theorem mt_400 : mt 400 = M_X13_init := rfl
theorem o_X13_init : mown M_X13_init = 43 := rfl
theorem r_X13_init : mrt M_X13_init = 9 := rfl
theorem l_X13_init : mlc M_X13_init = 1 := rfl
theorem h_X13_init : mhh M_X13_init = [] := rfl
theorem mt_401 : mt 401 = M_X13_forgets := rfl
theorem o_X13_forgets : mown M_X13_forgets = 43 := rfl
theorem r_X13_forgets : mrt M_X13_forgets = 10 := rfl
theorem l_X13_forgets : mlc M_X13_forgets = 1 := rfl
theorem h_X13_forgets : mhh M_X13_forgets = [] := rfl
theorem mt_402 : mt 402 = M_X13_feed := rfl
theorem o_X13_feed : mown M_X13_feed = 43 := rfl
theorem r_X13_feed : mrt M_X13_feed = 0 := rfl
theorem l_X13_feed : mlc M_X13_feed = 6 := rfl
theorem h_X13_feed : mhh M_X13_feed = [] := rfl
theorem mt_403 : mt 403 = M_X13_word := rfl
theorem o_X13_word : mown M_X13_word = 43 := rfl
theorem r_X13_word : mrt M_X13_word = 10 := rfl
theorem l_X13_word : mlc M_X13_word = 3 := rfl
theorem h_X13_word : mhh M_X13_word = [] := rfl
theorem mt_404 : mt 404 = M_X13_forget := rfl
theorem o_X13_forget : mown M_X13_forget = 43 := rfl
theorem r_X13_forget : mrt M_X13_forget = 0 := rfl
theorem l_X13_forget : mlc M_X13_forget = 2 := rfl
theorem h_X13_forget : mhh M_X13_forget = [] := rfl
theorem mt_405 : mt 405 = M_X13_tell := rfl
theorem o_X13_tell : mown M_X13_tell = 43 := rfl
theorem r_X13_tell : mrt M_X13_tell = 0 := rfl
theorem l_X13_tell : mlc M_X13_tell = 6 := rfl
theorem h_X13_tell : mhh M_X13_tell = [] := rfl
theorem mt_406 : mt 406 = M_X13_ends := rfl
theorem o_X13_ends : mown M_X13_ends = 43 := rfl
theorem r_X13_ends : mrt M_X13_ends = 1 := rfl
theorem l_X13_ends : mlc M_X13_ends = 2 := rfl
theorem h_X13_ends : mhh M_X13_ends = [] := rfl
theorem mt_407 : mt 407 = M_X13_scan := rfl
theorem o_X13_scan : mown M_X13_scan = 43 := rfl
theorem r_X13_scan : mrt M_X13_scan = 10 := rfl
theorem l_X13_scan : mlc M_X13_scan = 4 := rfl
theorem h_X13_scan : mhh M_X13_scan = [] := rfl
theorem mt_408 : mt 408 = M_X13_at := rfl
theorem o_X13_at : mown M_X13_at = 43 := rfl
theorem r_X13_at : mrt M_X13_at = 0 := rfl
theorem l_X13_at : mlc M_X13_at = 2 := rfl
theorem h_X13_at : mhh M_X13_at = [] := rfl
theorem mt_409 : mt 409 = M_X13_token := rfl
theorem o_X13_token : mown M_X13_token = 43 := rfl
theorem r_X13_token : mrt M_X13_token = 0 := rfl
theorem l_X13_token : mlc M_X13_token = 6 := rfl
theorem h_X13_token : mhh M_X13_token = [] := rfl
theorem mt_410 : mt 410 = M_X13_isLetter := rfl
theorem o_X13_isLetter : mown M_X13_isLetter = 43 := rfl
theorem r_X13_isLetter : mrt M_X13_isLetter = 1 := rfl
theorem l_X13_isLetter : mlc M_X13_isLetter = 1 := rfl
theorem h_X13_isLetter : mhh M_X13_isLetter = [] := rfl
theorem mt_411 : mt 411 = M_X13_isDigit := rfl
theorem o_X13_isDigit : mown M_X13_isDigit = 43 := rfl
theorem r_X13_isDigit : mrt M_X13_isDigit = 1 := rfl
theorem l_X13_isDigit : mlc M_X13_isDigit = 1 := rfl
theorem h_X13_isDigit : mhh M_X13_isDigit = [] := rfl
theorem mt_412 : mt 412 = M_X13_isWord := rfl
theorem o_X13_isWord : mown M_X13_isWord = 43 := rfl
theorem r_X13_isWord : mrt M_X13_isWord = 1 := rfl
theorem l_X13_isWord : mlc M_X13_isWord = 5 := rfl
theorem h_X13_isWord : mhh M_X13_isWord = [] := rfl
theorem mt_413 : mt 413 = M_J3_indexOf := rfl
theorem o_J3_indexOf : mown M_J3_indexOf = 3 := rfl
theorem r_J3_indexOf : mrt M_J3_indexOf = 0 := rfl
theorem l_J3_indexOf : mlc M_J3_indexOf = 2 := rfl
theorem h_J3_indexOf : mhh M_J3_indexOf = [] := rfl
theorem mt_414 : mt 414 = M_J3_indexOf_2 := rfl
theorem o_J3_indexOf_2 : mown M_J3_indexOf_2 = 3 := rfl
theorem r_J3_indexOf_2 : mrt M_J3_indexOf_2 = 0 := rfl
theorem l_J3_indexOf_2 : mlc M_J3_indexOf_2 = 3 := rfl
theorem h_J3_indexOf_2 : mhh M_J3_indexOf_2 = [] := rfl
theorem mt_415 : mt 415 = M_J4_indexOf := rfl
theorem o_J4_indexOf : mown M_J4_indexOf = 4 := rfl
theorem r_J4_indexOf : mrt M_J4_indexOf = 0 := rfl
theorem l_J4_indexOf : mlc M_J4_indexOf = 4 := rfl
theorem h_J4_indexOf : mhh M_J4_indexOf = [] := rfl
theorem mt_416 : mt 416 = M_J4_canEncode_2 := rfl
theorem o_J4_canEncode_2 : mown M_J4_canEncode_2 = 4 := rfl
theorem r_J4_canEncode_2 : mrt M_J4_canEncode_2 = 1 := rfl
theorem l_J4_canEncode_2 : mlc M_J4_canEncode_2 = 1 := rfl
theorem h_J4_canEncode_2 : mhh M_J4_canEncode_2 = [] := rfl
theorem mt_417 : mt 417 = M_J4_indexOfChar := rfl
theorem o_J4_indexOfChar : mown M_J4_indexOfChar = 4 := rfl
theorem r_J4_indexOfChar : mrt M_J4_indexOfChar = 0 := rfl
theorem l_J4_indexOfChar : mlc M_J4_indexOfChar = 6 := rfl
theorem h_J4_indexOfChar : mhh M_J4_indexOfChar = [] := rfl
theorem mt_418 : mt 418 = M_J6_indexOf := rfl
theorem o_J6_indexOf : mown M_J6_indexOf = 6 := rfl
theorem r_J6_indexOf : mrt M_J6_indexOf = 0 := rfl
theorem l_J6_indexOf : mlc M_J6_indexOf = 4 := rfl
theorem h_J6_indexOf : mhh M_J6_indexOf = [] := rfl
theorem mt_419 : mt 419 = M_J6_indexOfChar := rfl
theorem o_J6_indexOfChar : mown M_J6_indexOfChar = 6 := rfl
theorem r_J6_indexOfChar : mrt M_J6_indexOfChar = 0 := rfl
theorem l_J6_indexOfChar : mlc M_J6_indexOfChar = 4 := rfl
theorem h_J6_indexOfChar : mhh M_J6_indexOfChar = [] := rfl
theorem mt_420 : mt 420 = M_J6_checkBoundsBeginEnd := rfl
theorem o_J6_checkBoundsBeginEnd : mown M_J6_checkBoundsBeginEnd = 6 := rfl
theorem r_J6_checkBoundsBeginEnd : mrt M_J6_checkBoundsBeginEnd = 10 := rfl
theorem l_J6_checkBoundsBeginEnd : mlc M_J6_checkBoundsBeginEnd = 3 := rfl
theorem h_J6_checkBoundsBeginEnd : mhh M_J6_checkBoundsBeginEnd = [] := rfl
theorem mt_421 : mt 421 = M_J3_checkBoundsBeginEnd := rfl
theorem o_J3_checkBoundsBeginEnd : mown M_J3_checkBoundsBeginEnd = 3 := rfl
theorem r_J3_checkBoundsBeginEnd : mrt M_J3_checkBoundsBeginEnd = 10 := rfl
theorem l_J3_checkBoundsBeginEnd : mlc M_J3_checkBoundsBeginEnd = 3 := rfl
theorem h_J3_checkBoundsBeginEnd : mhh M_J3_checkBoundsBeginEnd = [] := rfl
theorem mt_422 : mt 422 = M_J5_checkFromToIndex := rfl
theorem o_J5_checkFromToIndex : mown M_J5_checkFromToIndex = 5 := rfl
theorem r_J5_checkFromToIndex : mrt M_J5_checkFromToIndex = 0 := rfl
theorem l_J5_checkFromToIndex : mlc M_J5_checkFromToIndex = 4 := rfl
theorem h_J5_checkFromToIndex : mhh M_J5_checkFromToIndex = [] := rfl
theorem mt_423 : mt 423 = M_J6_indexOfCharUnsafe := rfl
theorem o_J6_indexOfCharUnsafe : mown M_J6_indexOfCharUnsafe = 6 := rfl
theorem r_J6_indexOfCharUnsafe : mrt M_J6_indexOfCharUnsafe = 0 := rfl
theorem l_J6_indexOfCharUnsafe : mlc M_J6_indexOfCharUnsafe = 5 := rfl
theorem h_J6_indexOfCharUnsafe : mhh M_J6_indexOfCharUnsafe = [] := rfl
theorem mt_424 : mt 424 = M_J6_indexOfSupplementary := rfl
theorem o_J6_indexOfSupplementary : mown M_J6_indexOfSupplementary = 6 := rfl
theorem r_J6_indexOfSupplementary : mrt M_J6_indexOfSupplementary = 0 := rfl
theorem l_J6_indexOfSupplementary : mlc M_J6_indexOfSupplementary = 7 := rfl
theorem h_J6_indexOfSupplementary : mhh M_J6_indexOfSupplementary = [] := rfl
theorem mt_425 : mt 425 = M_J22_isValidCodePoint := rfl
theorem o_J22_isValidCodePoint : mown M_J22_isValidCodePoint = 22 := rfl
theorem r_J22_isValidCodePoint : mrt M_J22_isValidCodePoint = 1 := rfl
theorem l_J22_isValidCodePoint : mlc M_J22_isValidCodePoint = 2 := rfl
theorem h_J22_isValidCodePoint : mhh M_J22_isValidCodePoint = [] := rfl
theorem mt_426 : mt 426 = M_J22_highSurrogate := rfl
theorem o_J22_highSurrogate : mown M_J22_highSurrogate = 22 := rfl
theorem r_J22_highSurrogate : mrt M_J22_highSurrogate = 3 := rfl
theorem l_J22_highSurrogate : mlc M_J22_highSurrogate = 1 := rfl
theorem h_J22_highSurrogate : mhh M_J22_highSurrogate = [] := rfl
theorem mt_427 : mt 427 = M_J22_lowSurrogate := rfl
theorem o_J22_lowSurrogate : mown M_J22_lowSurrogate = 22 := rfl
theorem r_J22_lowSurrogate : mrt M_J22_lowSurrogate = 3 := rfl
theorem l_J22_lowSurrogate : mlc M_J22_lowSurrogate = 1 := rfl
theorem h_J22_lowSurrogate : mhh M_J22_lowSurrogate = [] := rfl
theorem mt_428 : mt 428 = M_X13_readStatement := rfl
theorem o_X13_readStatement : mown M_X13_readStatement = 43 := rfl
theorem r_X13_readStatement : mrt M_X13_readStatement = 10 := rfl
theorem l_X13_readStatement : mlc M_X13_readStatement = 1 := rfl
theorem h_X13_readStatement : mhh M_X13_readStatement = [] := rfl
theorem mt_429 : mt 429 = M_X13_takes := rfl
theorem o_X13_takes : mown M_X13_takes = 43 := rfl
theorem r_X13_takes : mrt M_X13_takes = 1 := rfl
theorem l_X13_takes : mlc M_X13_takes = 2 := rfl
theorem h_X13_takes : mhh M_X13_takes = [] := rfl
theorem mt_430 : mt 430 = M_X13_is := rfl
theorem o_X13_is : mown M_X13_is = 43 := rfl
theorem r_X13_is : mrt M_X13_is = 1 := rfl
theorem l_X13_is : mlc M_X13_is = 3 := rfl
theorem h_X13_is : mhh M_X13_is = [] := rfl
theorem mt_431 : mt 431 = M_X13_take := rfl
theorem o_X13_take : mown M_X13_take = 43 := rfl
theorem r_X13_take : mrt M_X13_take = 10 := rfl
theorem l_X13_take : mlc M_X13_take = 1 := rfl
theorem h_X13_take : mhh M_X13_take = [] := rfl
theorem mt_432 : mt 432 = M_X13_wrong := rfl
theorem o_X13_wrong : mown M_X13_wrong = 43 := rfl
theorem r_X13_wrong : mrt M_X13_wrong = 10 := rfl
theorem l_X13_wrong : mlc M_X13_wrong = 1 := rfl
theorem h_X13_wrong : mhh M_X13_wrong = [] := rfl
theorem mt_433 : mt 433 = M_X13_mustBe := rfl
theorem o_X13_mustBe : mown M_X13_mustBe = 43 := rfl
theorem r_X13_mustBe : mrt M_X13_mustBe = 10 := rfl
theorem l_X13_mustBe : mlc M_X13_mustBe = 2 := rfl
theorem h_X13_mustBe : mhh M_X13_mustBe = [] := rfl
theorem mt_434 : mt 434 = M_X13_must := rfl
theorem o_X13_must : mown M_X13_must = 43 := rfl
theorem r_X13_must : mrt M_X13_must = 10 := rfl
theorem l_X13_must : mlc M_X13_must = 2 := rfl
theorem h_X13_must : mhh M_X13_must = [] := rfl
theorem mt_435 : mt 435 = M_X13_readCon := rfl
theorem o_X13_readCon : mown M_X13_readCon = 43 := rfl
theorem r_X13_readCon : mrt M_X13_readCon = 10 := rfl
theorem l_X13_readCon : mlc M_X13_readCon = 1 := rfl
theorem h_X13_readCon : mhh M_X13_readCon = [] := rfl
theorem mt_436 : mt 436 = M_X13_enters := rfl
theorem o_X13_enters : mown M_X13_enters = 43 := rfl
theorem r_X13_enters : mrt M_X13_enters = 1 := rfl
theorem l_X13_enters : mlc M_X13_enters = 1 := rfl
theorem h_X13_enters : mhh M_X13_enters = [] := rfl
theorem mt_437 : mt 437 = M_X13_readCon2 := rfl
theorem o_X13_readCon2 : mown M_X13_readCon2 = 43 := rfl
theorem r_X13_readCon2 : mrt M_X13_readCon2 = 10 := rfl
theorem l_X13_readCon2 : mlc M_X13_readCon2 = 1 := rfl
theorem h_X13_readCon2 : mhh M_X13_readCon2 = [] := rfl
theorem mt_438 : mt 438 = M_X13_readCon3 := rfl
theorem o_X13_readCon3 : mown M_X13_readCon3 = 43 := rfl
theorem r_X13_readCon3 : mrt M_X13_readCon3 = 10 := rfl
theorem l_X13_readCon3 : mlc M_X13_readCon3 = 1 := rfl
theorem h_X13_readCon3 : mhh M_X13_readCon3 = [] := rfl
theorem mt_439 : mt 439 = M_X13_isWholeNumeral := rfl
theorem o_X13_isWholeNumeral : mown M_X13_isWholeNumeral = 43 := rfl
theorem r_X13_isWholeNumeral : mrt M_X13_isWholeNumeral = 1 := rfl
theorem l_X13_isWholeNumeral : mlc M_X13_isWholeNumeral = 2 := rfl
theorem h_X13_isWholeNumeral : mhh M_X13_isWholeNumeral = [] := rfl
theorem mt_440 : mt 440 = M_X13_numeral := rfl
theorem o_X13_numeral : mown M_X13_numeral = 43 := rfl
theorem r_X13_numeral : mrt M_X13_numeral = 7 := rfl
theorem l_X13_numeral : mlc M_X13_numeral = 8 := rfl
theorem h_X13_numeral : mhh M_X13_numeral = [] := rfl
theorem mt_441 : mt 441 = M_X13_sortWord := rfl
theorem o_X13_sortWord : mown M_X13_sortWord = 43 := rfl
theorem r_X13_sortWord : mrt M_X13_sortWord = 0 := rfl
theorem l_X13_sortWord : mlc M_X13_sortWord = 1 := rfl
theorem h_X13_sortWord : mhh M_X13_sortWord = [] := rfl
theorem mt_442 : mt 442 = M_X13_readValue := rfl
theorem o_X13_readValue : mown M_X13_readValue = 43 := rfl
theorem r_X13_readValue : mrt M_X13_readValue = 10 := rfl
theorem l_X13_readValue : mlc M_X13_readValue = 1 := rfl
theorem h_X13_readValue : mhh M_X13_readValue = [] := rfl
theorem mt_443 : mt 443 = M_X13_readRange := rfl
theorem o_X13_readRange : mown M_X13_readRange = 43 := rfl
theorem r_X13_readRange : mrt M_X13_readRange = 10 := rfl
theorem l_X13_readRange : mlc M_X13_readRange = 1 := rfl
theorem h_X13_readRange : mhh M_X13_readRange = [] := rfl
theorem mt_444 : mt 444 = M_X13_readBound := rfl
theorem o_X13_readBound : mown M_X13_readBound = 43 := rfl
theorem r_X13_readBound : mrt M_X13_readBound = 10 := rfl
theorem l_X13_readBound : mlc M_X13_readBound = 2 := rfl
theorem h_X13_readBound : mhh M_X13_readBound = [] := rfl
theorem mt_445 : mt 445 = M_X13_readSet := rfl
theorem o_X13_readSet : mown M_X13_readSet = 43 := rfl
theorem r_X13_readSet : mrt M_X13_readSet = 10 := rfl
theorem l_X13_readSet : mlc M_X13_readSet = 1 := rfl
theorem h_X13_readSet : mhh M_X13_readSet = [] := rfl
theorem mt_446 : mt 446 = M_X13_readPlace := rfl
theorem o_X13_readPlace : mown M_X13_readPlace = 43 := rfl
theorem r_X13_readPlace : mrt M_X13_readPlace = 10 := rfl
theorem l_X13_readPlace : mlc M_X13_readPlace = 1 := rfl
theorem h_X13_readPlace : mhh M_X13_readPlace = [] := rfl
theorem mt_447 : mt 447 = M_X13_readOne := rfl
theorem o_X13_readOne : mown M_X13_readOne = 43 := rfl
theorem r_X13_readOne : mrt M_X13_readOne = 10 := rfl
theorem l_X13_readOne : mlc M_X13_readOne = 1 := rfl
theorem h_X13_readOne : mhh M_X13_readOne = [] := rfl
theorem mt_448 : mt 448 = M_X13_readEx := rfl
theorem o_X13_readEx : mown M_X13_readEx = 43 := rfl
theorem r_X13_readEx : mrt M_X13_readEx = 10 := rfl
theorem l_X13_readEx : mlc M_X13_readEx = 1 := rfl
theorem h_X13_readEx : mhh M_X13_readEx = [] := rfl
theorem mt_449 : mt 449 = M_X13_readNot := rfl
theorem o_X13_readNot : mown M_X13_readNot = 43 := rfl
theorem r_X13_readNot : mrt M_X13_readNot = 10 := rfl
theorem l_X13_readNot : mlc M_X13_readNot = 1 := rfl
theorem h_X13_readNot : mhh M_X13_readNot = [] := rfl
theorem mt_450 : mt 450 = M_X13_readRel := rfl
theorem o_X13_readRel : mown M_X13_readRel = 43 := rfl
theorem r_X13_readRel : mrt M_X13_readRel = 10 := rfl
theorem l_X13_readRel : mlc M_X13_readRel = 1 := rfl
theorem h_X13_readRel : mhh M_X13_readRel = [] := rfl
theorem mt_451 : mt 451 = M_X13_readSum := rfl
theorem o_X13_readSum : mown M_X13_readSum = 43 := rfl
theorem r_X13_readSum : mrt M_X13_readSum = 10 := rfl
theorem l_X13_readSum : mlc M_X13_readSum = 1 := rfl
theorem h_X13_readSum : mhh M_X13_readSum = [] := rfl
theorem mt_452 : mt 452 = M_X13_readMinus := rfl
theorem o_X13_readMinus : mown M_X13_readMinus = 43 := rfl
theorem r_X13_readMinus : mrt M_X13_readMinus = 10 := rfl
theorem l_X13_readMinus : mlc M_X13_readMinus = 1 := rfl
theorem h_X13_readMinus : mhh M_X13_readMinus = [] := rfl
theorem mt_453 : mt 453 = M_X13_readAtom := rfl
theorem o_X13_readAtom : mown M_X13_readAtom = 43 := rfl
theorem r_X13_readAtom : mrt M_X13_readAtom = 10 := rfl
theorem l_X13_readAtom : mlc M_X13_readAtom = 1 := rfl
theorem h_X13_readAtom : mhh M_X13_readAtom = [] := rfl
theorem mt_454 : mt 454 = M_X13_readArguments := rfl
theorem o_X13_readArguments : mown M_X13_readArguments = 43 := rfl
theorem r_X13_readArguments : mrt M_X13_readArguments = 10 := rfl
theorem l_X13_readArguments : mlc M_X13_readArguments = 3 := rfl
theorem h_X13_readArguments : mhh M_X13_readArguments = [] := rfl
theorem mt_455 : mt 455 = M_X13_isCompared := rfl
theorem o_X13_isCompared : mown M_X13_isCompared = 43 := rfl
theorem r_X13_isCompared : mrt M_X13_isCompared = 1 := rfl
theorem l_X13_isCompared : mlc M_X13_isCompared = 1 := rfl
theorem h_X13_isCompared : mhh M_X13_isCompared = [] := rfl
theorem mt_456 : mt 456 = M_X13_doStatement := rfl
theorem o_X13_doStatement : mown M_X13_doStatement = 43 := rfl
theorem r_X13_doStatement : mrt M_X13_doStatement = 0 := rfl
theorem l_X13_doStatement : mlc M_X13_doStatement = 13 := rfl
theorem h_X13_doStatement : mhh M_X13_doStatement = [] := rfl
theorem mt_457 : mt 457 = M_X13_domain := rfl
theorem o_X13_domain : mown M_X13_domain = 43 := rfl
theorem r_X13_domain : mrt M_X13_domain = 10 := rfl
theorem l_X13_domain : mlc M_X13_domain = 2 := rfl
theorem h_X13_domain : mhh M_X13_domain = [] := rfl
theorem mt_458 : mt 458 = M_X13_named := rfl
theorem o_X13_named : mown M_X13_named = 43 := rfl
theorem r_X13_named : mrt M_X13_named = 0 := rfl
theorem l_X13_named : mlc M_X13_named = 4 := rfl
theorem h_X13_named : mhh M_X13_named = [] := rfl
theorem mt_459 : mt 459 = M_X13_find := rfl
theorem o_X13_find : mown M_X13_find = 43 := rfl
theorem r_X13_find : mrt M_X13_find = 0 := rfl
theorem l_X13_find : mlc M_X13_find = 5 := rfl
theorem h_X13_find : mhh M_X13_find = [] := rfl
theorem mt_460 : mt 460 = M_X13_key := rfl
theorem o_X13_key : mown M_X13_key = 43 := rfl
theorem r_X13_key : mrt M_X13_key = 5 := rfl
theorem l_X13_key : mlc M_X13_key = 5 := rfl
theorem h_X13_key : mhh M_X13_key = [] := rfl
theorem mt_461 : mt 461 = M_X13_fails := rfl
theorem o_X13_fails : mown M_X13_fails = 43 := rfl
theorem r_X13_fails : mrt M_X13_fails = 10 := rfl
theorem l_X13_fails : mlc M_X13_fails = 2 := rfl
theorem h_X13_fails : mhh M_X13_fails = [] := rfl
theorem mt_462 : mt 462 = M_X13_value := rfl
theorem o_X13_value : mown M_X13_value = 43 := rfl
theorem r_X13_value : mrt M_X13_value = 10 := rfl
theorem l_X13_value : mlc M_X13_value = 1 := rfl
theorem h_X13_value : mhh M_X13_value = [] := rfl
theorem mt_463 : mt 463 = M_X13_range := rfl
theorem o_X13_range : mown M_X13_range = 43 := rfl
theorem r_X13_range : mrt M_X13_range = 10 := rfl
theorem l_X13_range : mlc M_X13_range = 1 := rfl
theorem h_X13_range : mhh M_X13_range = [] := rfl
theorem mt_464 : mt 464 = M_X13_bound := rfl
theorem o_X13_bound : mown M_X13_bound = 43 := rfl
theorem r_X13_bound : mrt M_X13_bound = 7 := rfl
theorem l_X13_bound : mlc M_X13_bound = 5 := rfl
theorem h_X13_bound : mhh M_X13_bound = [] := rfl
theorem mt_465 : mt 465 = M_X13_plain := rfl
theorem o_X13_plain : mown M_X13_plain = 43 := rfl
theorem r_X13_plain : mrt M_X13_plain = 7 := rfl
theorem l_X13_plain : mlc M_X13_plain = 2 := rfl
theorem h_X13_plain : mhh M_X13_plain = [] := rfl
theorem mt_466 : mt 466 = M_X13_set := rfl
theorem o_X13_set : mown M_X13_set = 43 := rfl
theorem r_X13_set : mrt M_X13_set = 10 := rfl
theorem l_X13_set : mlc M_X13_set = 1 := rfl
theorem h_X13_set : mhh M_X13_set = [] := rfl
theorem mt_467 : mt 467 = M_X13_con := rfl
theorem o_X13_con : mown M_X13_con = 43 := rfl
theorem r_X13_con : mrt M_X13_con = 0 := rfl
theorem l_X13_con : mlc M_X13_con = 4 := rfl
theorem h_X13_con : mhh M_X13_con = [] := rfl
theorem mt_468 : mt 468 = M_X13_con2 := rfl
theorem o_X13_con2 : mown M_X13_con2 = 43 := rfl
theorem r_X13_con2 : mrt M_X13_con2 = 0 := rfl
theorem l_X13_con2 : mlc M_X13_con2 = 4 := rfl
theorem h_X13_con2 : mhh M_X13_con2 = [] := rfl
theorem mt_469 : mt 469 = M_X13_con3 := rfl
theorem o_X13_con3 : mown M_X13_con3 = 43 := rfl
theorem r_X13_con3 : mrt M_X13_con3 = 0 := rfl
theorem l_X13_con3 : mlc M_X13_con3 = 4 := rfl
theorem h_X13_con3 : mhh M_X13_con3 = [] := rfl
theorem mt_470 : mt 470 = M_X13_letters := rfl
theorem o_X13_letters : mown M_X13_letters = 43 := rfl
theorem r_X13_letters : mrt M_X13_letters = 5 := rfl
theorem l_X13_letters : mlc M_X13_letters = 5 := rfl
theorem h_X13_letters : mhh M_X13_letters = [] := rfl
theorem mt_471 : mt 471 = M_X13_judge := rfl
theorem o_X13_judge : mown M_X13_judge = 43 := rfl
theorem r_X13_judge : mrt M_X13_judge = 10 := rfl
theorem l_X13_judge : mlc M_X13_judge = 4 := rfl
theorem h_X13_judge : mhh M_X13_judge = [] := rfl
theorem mt_472 : mt 472 = M_X13_ceil := rfl
theorem o_X13_ceil : mown M_X13_ceil = 43 := rfl
theorem r_X13_ceil : mrt M_X13_ceil = 7 := rfl
theorem l_X13_ceil : mlc M_X13_ceil = 2 := rfl
theorem h_X13_ceil : mhh M_X13_ceil = [] := rfl
theorem mt_473 : mt 473 = M_X13_floor := rfl
theorem o_X13_floor : mown M_X13_floor = 43 := rfl
theorem r_X13_floor : mrt M_X13_floor = 7 := rfl
theorem l_X13_floor : mlc M_X13_floor = 4 := rfl
theorem h_X13_floor : mhh M_X13_floor = [] := rfl
theorem mt_474 : mt 474 = M_X13_gives := rfl
theorem o_X13_gives : mown M_X13_gives = 43 := rfl
theorem r_X13_gives : mrt M_X13_gives = 10 := rfl
theorem l_X13_gives : mlc M_X13_gives = 2 := rfl
theorem h_X13_gives : mhh M_X13_gives = [] := rfl
theorem mt_475 : mt 475 = M_X13_smallBelow := rfl
theorem o_X13_smallBelow : mown M_X13_smallBelow = 43 := rfl
theorem r_X13_smallBelow : mrt M_X13_smallBelow = 7 := rfl
theorem l_X13_smallBelow : mlc M_X13_smallBelow = 3 := rfl
theorem h_X13_smallBelow : mhh M_X13_smallBelow = [] := rfl
theorem mt_476 : mt 476 = M_X13_smallUp := rfl
theorem o_X13_smallUp : mown M_X13_smallUp = 43 := rfl
theorem r_X13_smallUp : mrt M_X13_smallUp = 6 := rfl
theorem l_X13_smallUp : mlc M_X13_smallUp = 3 := rfl
theorem h_X13_smallUp : mhh M_X13_smallUp = [] := rfl
theorem mt_477 : mt 477 = M_X13_smallAbove := rfl
theorem o_X13_smallAbove : mown M_X13_smallAbove = 43 := rfl
theorem r_X13_smallAbove : mrt M_X13_smallAbove = 7 := rfl
theorem l_X13_smallAbove : mlc M_X13_smallAbove = 2 := rfl
theorem h_X13_smallAbove : mhh M_X13_smallAbove = [] := rfl
theorem mt_478 : mt 478 = M_X13_wholes := rfl
theorem o_X13_wholes : mown M_X13_wholes = 43 := rfl
theorem r_X13_wholes : mrt M_X13_wholes = 10 := rfl
theorem l_X13_wholes : mlc M_X13_wholes = 5 := rfl
theorem h_X13_wholes : mhh M_X13_wholes = [] := rfl
theorem mt_479 : mt 479 = M_X13_inserts := rfl
theorem o_X13_inserts : mown M_X13_inserts = 43 := rfl
theorem r_X13_inserts : mrt M_X13_inserts = 0 := rfl
theorem l_X13_inserts : mlc M_X13_inserts = 6 := rfl
theorem h_X13_inserts : mhh M_X13_inserts = [] := rfl
theorem mt_480 : mt 480 = M_X13_newVariable := rfl
theorem o_X13_newVariable : mown M_X13_newVariable = 43 := rfl
theorem r_X13_newVariable : mrt M_X13_newVariable = 0 := rfl
theorem l_X13_newVariable : mlc M_X13_newVariable = 2 := rfl
theorem h_X13_newVariable : mhh M_X13_newVariable = [] := rfl
theorem mt_481 : mt 481 = M_X13_name := rfl
theorem o_X13_name : mown M_X13_name = 43 := rfl
theorem r_X13_name : mrt M_X13_name = 10 := rfl
theorem l_X13_name : mlc M_X13_name = 4 := rfl
theorem h_X13_name : mhh M_X13_name = [] := rfl
theorem mt_482 : mt 482 = M_X13_let := rfl
theorem o_X13_let : mown M_X13_let = 43 := rfl
theorem r_X13_let : mrt M_X13_let = 10 := rfl
theorem l_X13_let : mlc M_X13_let = 3 := rfl
theorem h_X13_let : mhh M_X13_let = [] := rfl
theorem mt_483 : mt 483 = M_X13_row := rfl
theorem o_X13_row : mown M_X13_row = 43 := rfl
theorem r_X13_row : mrt M_X13_row = 10 := rfl
theorem l_X13_row : mlc M_X13_row = 5 := rfl
theorem h_X13_row : mhh M_X13_row = [] := rfl
theorem mt_484 : mt 484 = M_X13_fill := rfl
theorem o_X13_fill : mown M_X13_fill = 43 := rfl
theorem r_X13_fill : mrt M_X13_fill = 10 := rfl
theorem l_X13_fill : mlc M_X13_fill = 4 := rfl
theorem h_X13_fill : mhh M_X13_fill = [] := rfl
theorem mt_485 : mt 485 = M_X13_put := rfl
theorem o_X13_put : mown M_X13_put = 43 := rfl
theorem r_X13_put : mrt M_X13_put = 10 := rfl
theorem l_X13_put : mlc M_X13_put = 4 := rfl
theorem h_X13_put : mhh M_X13_put = [] := rfl
theorem mt_486 : mt 486 = M_X13_one := rfl
theorem o_X13_one : mown M_X13_one = 43 := rfl
theorem r_X13_one : mrt M_X13_one = 0 := rfl
theorem l_X13_one : mlc M_X13_one = 4 := rfl
theorem h_X13_one : mhh M_X13_one = [] := rfl
theorem mt_487 : mt 487 = M_X13_copy := rfl
theorem o_X13_copy : mown M_X13_copy = 43 := rfl
theorem r_X13_copy : mrt M_X13_copy = 10 := rfl
theorem l_X13_copy : mlc M_X13_copy = 7 := rfl
theorem h_X13_copy : mhh M_X13_copy = [] := rfl
theorem mt_488 : mt 488 = M_X13_weigh := rfl
theorem o_X13_weigh : mown M_X13_weigh = 43 := rfl
theorem r_X13_weigh : mrt M_X13_weigh = 10 := rfl
theorem l_X13_weigh : mlc M_X13_weigh = 3 := rfl
theorem h_X13_weigh : mhh M_X13_weigh = [] := rfl
theorem mt_489 : mt 489 = M_X13_tellEx := rfl
theorem o_X13_tellEx : mown M_X13_tellEx = 43 := rfl
theorem r_X13_tellEx : mrt M_X13_tellEx = 10 := rfl
theorem l_X13_tellEx : mlc M_X13_tellEx = 3 := rfl
theorem h_X13_tellEx : mhh M_X13_tellEx = [] := rfl
theorem mt_490 : mt 490 = M_X13_ex := rfl
theorem o_X13_ex : mown M_X13_ex = 43 := rfl
theorem r_X13_ex : mrt M_X13_ex = 0 := rfl
theorem l_X13_ex : mlc M_X13_ex = 2 := rfl
theorem h_X13_ex : mhh M_X13_ex = [] := rfl
theorem mt_491 : mt 491 = M_X13_andPart := rfl
theorem o_X13_andPart : mown M_X13_andPart = 43 := rfl
theorem r_X13_andPart : mrt M_X13_andPart = 0 := rfl
theorem l_X13_andPart : mlc M_X13_andPart = 2 := rfl
theorem h_X13_andPart : mhh M_X13_andPart = [] := rfl
theorem mt_492 : mt 492 = M_X13_notPart := rfl
theorem o_X13_notPart : mown M_X13_notPart = 43 := rfl
theorem r_X13_notPart : mrt M_X13_notPart = 0 := rfl
theorem l_X13_notPart : mlc M_X13_notPart = 2 := rfl
theorem h_X13_notPart : mhh M_X13_notPart = [] := rfl
theorem mt_493 : mt 493 = M_X13_relation := rfl
theorem o_X13_relation : mown M_X13_relation = 43 := rfl
theorem r_X13_relation : mrt M_X13_relation = 0 := rfl
theorem l_X13_relation : mlc M_X13_relation = 4 := rfl
theorem h_X13_relation : mhh M_X13_relation = [] := rfl
theorem mt_494 : mt 494 = M_X13_sum := rfl
theorem o_X13_sum : mown M_X13_sum = 43 := rfl
theorem r_X13_sum : mrt M_X13_sum = 0 := rfl
theorem l_X13_sum : mlc M_X13_sum = 3 := rfl
theorem h_X13_sum : mhh M_X13_sum = [] := rfl
theorem mt_495 : mt 495 = M_X13_product := rfl
theorem o_X13_product : mown M_X13_product = 43 := rfl
theorem r_X13_product : mrt M_X13_product = 0 := rfl
theorem l_X13_product : mlc M_X13_product = 3 := rfl
theorem h_X13_product : mhh M_X13_product = [] := rfl
theorem mt_496 : mt 496 = M_X13_minus := rfl
theorem o_X13_minus : mown M_X13_minus = 43 := rfl
theorem r_X13_minus : mrt M_X13_minus = 0 := rfl
theorem l_X13_minus : mlc M_X13_minus = 2 := rfl
theorem h_X13_minus : mhh M_X13_minus = [] := rfl
theorem mt_497 : mt 497 = M_X13_atom := rfl
theorem o_X13_atom : mown M_X13_atom = 43 := rfl
theorem r_X13_atom : mrt M_X13_atom = 0 := rfl
theorem l_X13_atom : mlc M_X13_atom = 4 := rfl
theorem h_X13_atom : mhh M_X13_atom = [] := rfl
theorem mt_498 : mt 498 = M_X13_numeralPart := rfl
theorem o_X13_numeralPart : mown M_X13_numeralPart = 43 := rfl
theorem r_X13_numeralPart : mrt M_X13_numeralPart = 0 := rfl
theorem l_X13_numeralPart : mlc M_X13_numeralPart = 4 := rfl
theorem h_X13_numeralPart : mhh M_X13_numeralPart = [] := rfl
theorem mt_499 : mt 499 = M_X13_make := rfl
theorem o_X13_make : mown M_X13_make = 43 := rfl
theorem r_X13_make : mrt M_X13_make = 0 := rfl
theorem l_X13_make : mlc M_X13_make = 6 := rfl
theorem h_X13_make : mhh M_X13_make = [] := rfl
theorem mt_500 : mt 500 = M_J23_bitCount := rfl
theorem o_J23_bitCount : mown M_J23_bitCount = 23 := rfl
theorem r_J23_bitCount : mrt M_J23_bitCount = 0 := rfl
theorem l_J23_bitCount : mlc M_J23_bitCount = 2 := rfl
theorem h_J23_bitCount : mhh M_J23_bitCount = [] := rfl
theorem mt_501 : mt 501 = M_X13_fixedPart := rfl
theorem o_X13_fixedPart : mown M_X13_fixedPart = 43 := rfl
theorem r_X13_fixedPart : mrt M_X13_fixedPart = 0 := rfl
theorem l_X13_fixedPart : mlc M_X13_fixedPart = 3 := rfl
theorem h_X13_fixedPart : mhh M_X13_fixedPart = [] := rfl
theorem mt_502 : mt 502 = M_X13_variablePart := rfl
theorem o_X13_variablePart : mown M_X13_variablePart = 43 := rfl
theorem r_X13_variablePart : mrt M_X13_variablePart = 0 := rfl
theorem l_X13_variablePart : mlc M_X13_variablePart = 2 := rfl
theorem h_X13_variablePart : mhh M_X13_variablePart = [] := rfl
theorem mt_503 : mt 503 = M_X13_worded := rfl
theorem o_X13_worded : mown M_X13_worded = 43 := rfl
theorem r_X13_worded : mrt M_X13_worded = 0 := rfl
theorem l_X13_worded : mlc M_X13_worded = 5 := rfl
theorem h_X13_worded : mhh M_X13_worded = [] := rfl
theorem mt_504 : mt 504 = M_X13_rowed := rfl
theorem o_X13_rowed : mown M_X13_rowed = 43 := rfl
theorem r_X13_rowed : mrt M_X13_rowed = 0 := rfl
theorem l_X13_rowed : mlc M_X13_rowed = 5 := rfl
theorem h_X13_rowed : mhh M_X13_rowed = [] := rfl
theorem mt_505 : mt 505 = M_X13_differs := rfl
theorem o_X13_differs : mown M_X13_differs = 43 := rfl
theorem r_X13_differs : mrt M_X13_differs = 0 := rfl
theorem l_X13_differs : mlc M_X13_differs = 9 := rfl
theorem h_X13_differs : mhh M_X13_differs = [] := rfl
theorem mt_506 : mt 506 = M_X13_sums := rfl
theorem o_X13_sums : mown M_X13_sums = 43 := rfl
theorem r_X13_sums : mrt M_X13_sums = 0 := rfl
theorem l_X13_sums : mlc M_X13_sums = 11 := rfl
theorem h_X13_sums : mhh M_X13_sums = [] := rfl
theorem mt_507 : mt 507 = M_X13_pair := rfl
theorem o_X13_pair : mown M_X13_pair = 43 := rfl
theorem r_X13_pair : mrt M_X13_pair = 0 := rfl
theorem l_X13_pair : mlc M_X13_pair = 6 := rfl
theorem h_X13_pair : mhh M_X13_pair = [] := rfl
theorem mt_508 : mt 508 = M_X13_compared := rfl
theorem o_X13_compared : mown M_X13_compared = 43 := rfl
theorem r_X13_compared : mrt M_X13_compared = 0 := rfl
theorem l_X13_compared : mlc M_X13_compared = 1 := rfl
theorem h_X13_compared : mhh M_X13_compared = [] := rfl
theorem mt_509 : mt 509 = M_X13_within := rfl
theorem o_X13_within : mown M_X13_within = 43 := rfl
theorem r_X13_within : mrt M_X13_within = 0 := rfl
theorem l_X13_within : mlc M_X13_within = 5 := rfl
theorem h_X13_within : mhh M_X13_within = [] := rfl
theorem mt_510 : mt 510 = M_X13_pools := rfl
theorem o_X13_pools : mown M_X13_pools = 43 := rfl
theorem r_X13_pools : mrt M_X13_pools = 10 := rfl
theorem l_X13_pools : mlc M_X13_pools = 4 := rfl
theorem h_X13_pools : mhh M_X13_pools = [] := rfl
theorem mt_511 : mt 511 = M_X13_orders := rfl
theorem o_X13_orders : mown M_X13_orders = 43 := rfl
theorem r_X13_orders : mrt M_X13_orders = 10 := rfl
theorem l_X13_orders : mlc M_X13_orders = 4 := rfl
theorem h_X13_orders : mhh M_X13_orders = [] := rfl
theorem mt_512 : mt 512 = M_X13_later := rfl
theorem o_X13_later : mown M_X13_later = 43 := rfl
theorem r_X13_later : mrt M_X13_later = 10 := rfl
theorem l_X13_later : mlc M_X13_later = 2 := rfl
theorem h_X13_later : mhh M_X13_later = [] := rfl
theorem mt_513 : mt 513 = M_X13_isPair := rfl
theorem o_X13_isPair : mown M_X13_isPair = 43 := rfl
theorem r_X13_isPair : mrt M_X13_isPair = 1 := rfl
theorem l_X13_isPair : mlc M_X13_isPair = 1 := rfl
theorem h_X13_isPair : mhh M_X13_isPair = [] := rfl
theorem mt_514 : mt 514 = M_X13_fault := rfl
theorem o_X13_fault : mown M_X13_fault = 43 := rfl
theorem r_X13_fault : mrt M_X13_fault = 0 := rfl
theorem l_X13_fault : mlc M_X13_fault = 2 := rfl
theorem h_X13_fault : mhh M_X13_fault = [] := rfl
theorem mt_515 : mt 515 = M_X13_narrow := rfl
theorem o_X13_narrow : mown M_X13_narrow = 43 := rfl
theorem r_X13_narrow : mrt M_X13_narrow = 0 := rfl
theorem l_X13_narrow : mlc M_X13_narrow = 3 := rfl
theorem h_X13_narrow : mhh M_X13_narrow = [] := rfl
theorem mt_516 : mt 516 = M_X13_counts := rfl
theorem o_X13_counts : mown M_X13_counts = 43 := rfl
theorem r_X13_counts : mrt M_X13_counts = 10 := rfl
theorem l_X13_counts : mlc M_X13_counts = 1 := rfl
theorem h_X13_counts : mhh M_X13_counts = [] := rfl
theorem mt_517 : mt 517 = M_X13_goesRound := rfl
theorem o_X13_goesRound : mown M_X13_goesRound = 43 := rfl
theorem r_X13_goesRound : mrt M_X13_goesRound = 0 := rfl
theorem l_X13_goesRound : mlc M_X13_goesRound = 4 := rfl
theorem h_X13_goesRound : mhh M_X13_goesRound = [] := rfl
theorem mt_518 : mt 518 = M_X13_narrows := rfl
theorem o_X13_narrows : mown M_X13_narrows = 43 := rfl
theorem r_X13_narrows : mrt M_X13_narrows = 0 := rfl
theorem l_X13_narrows : mlc M_X13_narrows = 6 := rfl
theorem h_X13_narrows : mhh M_X13_narrows = [] := rfl
theorem mt_519 : mt 519 = M_X13_forwards := rfl
theorem o_X13_forwards : mown M_X13_forwards = 43 := rfl
theorem r_X13_forwards : mrt M_X13_forwards = 0 := rfl
theorem l_X13_forwards : mlc M_X13_forwards = 6 := rfl
theorem h_X13_forwards : mhh M_X13_forwards = [] := rfl
theorem mt_520 : mt 520 = M_X13_ofVariable := rfl
theorem o_X13_ofVariable : mown M_X13_ofVariable = 43 := rfl
theorem r_X13_ofVariable : mrt M_X13_ofVariable = 0 := rfl
theorem l_X13_ofVariable : mlc M_X13_ofVariable = 4 := rfl
theorem h_X13_ofVariable : mhh M_X13_ofVariable = [] := rfl
theorem mt_521 : mt 521 = M_J23_numberOfTrailingZeros := rfl
theorem o_J23_numberOfTrailingZeros : mown M_J23_numberOfTrailingZeros = 23 := rfl
theorem r_J23_numberOfTrailingZeros : mrt M_J23_numberOfTrailingZeros = 0 := rfl
theorem l_J23_numberOfTrailingZeros : mlc M_J23_numberOfTrailingZeros = 3 := rfl
theorem h_J23_numberOfTrailingZeros : mhh M_J23_numberOfTrailingZeros = [] := rfl
theorem mt_522 : mt 522 = M_J23_numberOfLeadingZeros := rfl
theorem o_J23_numberOfLeadingZeros : mown M_J23_numberOfLeadingZeros = 23 := rfl
theorem r_J23_numberOfLeadingZeros : mrt M_J23_numberOfLeadingZeros = 0 := rfl
theorem l_J23_numberOfLeadingZeros : mlc M_J23_numberOfLeadingZeros = 3 := rfl
theorem h_J23_numberOfLeadingZeros : mhh M_J23_numberOfLeadingZeros = [] := rfl
theorem mt_523 : mt 523 = M_J26_numberOfLeadingZeros := rfl
theorem o_J26_numberOfLeadingZeros : mown M_J26_numberOfLeadingZeros = 26 := rfl
theorem r_J26_numberOfLeadingZeros : mrt M_J26_numberOfLeadingZeros = 0 := rfl
theorem l_J26_numberOfLeadingZeros : mlc M_J26_numberOfLeadingZeros = 2 := rfl
theorem h_J26_numberOfLeadingZeros : mhh M_J26_numberOfLeadingZeros = [] := rfl
theorem mt_524 : mt 524 = M_X13_ofNumber := rfl
theorem o_X13_ofNumber : mown M_X13_ofNumber = 43 := rfl
theorem r_X13_ofNumber : mrt M_X13_ofNumber = 0 := rfl
theorem l_X13_ofNumber : mlc M_X13_ofNumber = 6 := rfl
theorem h_X13_ofNumber : mhh M_X13_ofNumber = [] := rfl
theorem mt_525 : mt 525 = M_X13_gives_2 := rfl
theorem o_X13_gives_2 : mown M_X13_gives_2 = 43 := rfl
theorem r_X13_gives_2 : mrt M_X13_gives_2 = 10 := rfl
theorem l_X13_gives_2 : mlc M_X13_gives_2 = 5 := rfl
theorem h_X13_gives_2 : mhh M_X13_gives_2 = [] := rfl
theorem mt_526 : mt 526 = M_X13_less := rfl
theorem o_X13_less : mown M_X13_less = 43 := rfl
theorem r_X13_less : mrt M_X13_less = 7 := rfl
theorem l_X13_less : mlc M_X13_less = 4 := rfl
theorem h_X13_less : mhh M_X13_less = [] := rfl
theorem mt_527 : mt 527 = M_X13_more := rfl
theorem o_X13_more : mown M_X13_more = 43 := rfl
theorem r_X13_more : mrt M_X13_more = 7 := rfl
theorem l_X13_more : mlc M_X13_more = 4 := rfl
theorem h_X13_more : mhh M_X13_more = [] := rfl
theorem mt_528 : mt 528 = M_X13_reckon := rfl
theorem o_X13_reckon : mown M_X13_reckon = 43 := rfl
theorem r_X13_reckon : mrt M_X13_reckon = 10 := rfl
theorem l_X13_reckon : mlc M_X13_reckon = 10 := rfl
theorem h_X13_reckon : mhh M_X13_reckon = [] := rfl
theorem mt_529 : mt 529 = M_X13_plus := rfl
theorem o_X13_plus : mown M_X13_plus = 43 := rfl
theorem r_X13_plus : mrt M_X13_plus = 10 := rfl
theorem l_X13_plus : mlc M_X13_plus = 9 := rfl
theorem h_X13_plus : mhh M_X13_plus = [] := rfl
theorem mt_530 : mt 530 = M_X13_low := rfl
theorem o_X13_low : mown M_X13_low = 43 := rfl
theorem r_X13_low : mrt M_X13_low = 7 := rfl
theorem l_X13_low : mlc M_X13_low = 2 := rfl
theorem h_X13_low : mhh M_X13_low = [] := rfl
theorem mt_531 : mt 531 = M_X13_down := rfl
theorem o_X13_down : mown M_X13_down = 43 := rfl
theorem r_X13_down : mrt M_X13_down = 7 := rfl
theorem l_X13_down : mlc M_X13_down = 2 := rfl
theorem h_X13_down : mhh M_X13_down = [] := rfl
theorem mt_532 : mt 532 = M_X13_up := rfl
theorem o_X13_up : mown M_X13_up = 43 := rfl
theorem r_X13_up : mrt M_X13_up = 7 := rfl
theorem l_X13_up : mlc M_X13_up = 4 := rfl
theorem h_X13_up : mhh M_X13_up = [] := rfl
theorem mt_533 : mt 533 = M_X13_high := rfl
theorem o_X13_high : mown M_X13_high = 43 := rfl
theorem r_X13_high : mrt M_X13_high = 7 := rfl
theorem l_X13_high : mlc M_X13_high = 2 := rfl
theorem h_X13_high : mhh M_X13_high = [] := rfl
theorem mt_534 : mt 534 = M_X13_minus_2 := rfl
theorem o_X13_minus_2 : mown M_X13_minus_2 = 43 := rfl
theorem r_X13_minus_2 : mrt M_X13_minus_2 = 10 := rfl
theorem l_X13_minus_2 : mlc M_X13_minus_2 = 9 := rfl
theorem h_X13_minus_2 : mhh M_X13_minus_2 = [] := rfl
theorem mt_535 : mt 535 = M_X13_times := rfl
theorem o_X13_times : mown M_X13_times = 43 := rfl
theorem r_X13_times : mrt M_X13_times = 10 := rfl
theorem l_X13_times : mlc M_X13_times = 9 := rfl
theorem h_X13_times : mhh M_X13_times = [] := rfl
theorem mt_536 : mt 536 = M_X13_product_2 := rfl
theorem o_X13_product_2 : mown M_X13_product_2 = 43 := rfl
theorem r_X13_product_2 : mrt M_X13_product_2 = 7 := rfl
theorem l_X13_product_2 : mlc M_X13_product_2 = 4 := rfl
theorem h_X13_product_2 : mhh M_X13_product_2 = [] := rfl
theorem mt_537 : mt 537 = M_X13_four := rfl
theorem o_X13_four : mown M_X13_four = 43 := rfl
theorem r_X13_four : mrt M_X13_four = 10 := rfl
theorem l_X13_four : mlc M_X13_four = 9 := rfl
theorem h_X13_four : mhh M_X13_four = [] := rfl
theorem mt_538 : mt 538 = M_X13_by := rfl
theorem o_X13_by : mown M_X13_by = 43 := rfl
theorem r_X13_by : mrt M_X13_by = 10 := rfl
theorem l_X13_by : mlc M_X13_by = 9 := rfl
theorem h_X13_by : mhh M_X13_by = [] := rfl
theorem mt_539 : mt 539 = M_X13_quotient := rfl
theorem o_X13_quotient : mown M_X13_quotient = 43 := rfl
theorem r_X13_quotient : mrt M_X13_quotient = 7 := rfl
theorem l_X13_quotient : mlc M_X13_quotient = 4 := rfl
theorem h_X13_quotient : mhh M_X13_quotient = [] := rfl
theorem mt_540 : mt 540 = M_X13_isInfinite := rfl
theorem o_X13_isInfinite : mown M_X13_isInfinite = 43 := rfl
theorem r_X13_isInfinite : mrt M_X13_isInfinite = 1 := rfl
theorem l_X13_isInfinite : mlc M_X13_isInfinite = 2 := rfl
theorem h_X13_isInfinite : mhh M_X13_isInfinite = [] := rfl
theorem mt_541 : mt 541 = M_X13_absolute := rfl
theorem o_X13_absolute : mown M_X13_absolute = 43 := rfl
theorem r_X13_absolute : mrt M_X13_absolute = 10 := rfl
theorem l_X13_absolute : mlc M_X13_absolute = 5 := rfl
theorem h_X13_absolute : mhh M_X13_absolute = [] := rfl
theorem mt_542 : mt 542 = M_X13_square := rfl
theorem o_X13_square : mown M_X13_square = 43 := rfl
theorem r_X13_square : mrt M_X13_square = 10 := rfl
theorem l_X13_square : mlc M_X13_square = 9 := rfl
theorem h_X13_square : mhh M_X13_square = [] := rfl
theorem mt_543 : mt 543 = M_X13_root := rfl
theorem o_X13_root : mown M_X13_root = 43 := rfl
theorem r_X13_root : mrt M_X13_root = 10 := rfl
theorem l_X13_root : mlc M_X13_root = 5 := rfl
theorem h_X13_root : mhh M_X13_root = [] := rfl
theorem mt_544 : mt 544 = M_X13_near := rfl
theorem o_X13_near : mown M_X13_near = 43 := rfl
theorem r_X13_near : mrt M_X13_near = 7 := rfl
theorem l_X13_near : mlc M_X13_near = 7 := rfl
theorem h_X13_near : mhh M_X13_near = [] := rfl
theorem mt_545 : mt 545 = M_X13_signOf := rfl
theorem o_X13_signOf : mown M_X13_signOf = 43 := rfl
theorem r_X13_signOf : mrt M_X13_signOf = 7 := rfl
theorem l_X13_signOf : mlc M_X13_signOf = 2 := rfl
theorem h_X13_signOf : mhh M_X13_signOf = [] := rfl
theorem mt_546 : mt 546 = M_X13_ofTruth := rfl
theorem o_X13_ofTruth : mown M_X13_ofTruth = 43 := rfl
theorem r_X13_ofTruth : mrt M_X13_ofTruth = 0 := rfl
theorem l_X13_ofTruth : mlc M_X13_ofTruth = 7 := rfl
theorem h_X13_ofTruth : mhh M_X13_ofTruth = [] := rfl
theorem mt_547 : mt 547 = M_X13_turned := rfl
theorem o_X13_turned : mown M_X13_turned = 43 := rfl
theorem r_X13_turned : mrt M_X13_turned = 5 := rfl
theorem l_X13_turned : mlc M_X13_turned = 2 := rfl
theorem h_X13_turned : mhh M_X13_turned = [] := rfl
theorem mt_548 : mt 548 = M_X13_alike := rfl
theorem o_X13_alike : mown M_X13_alike = 43 := rfl
theorem r_X13_alike : mrt M_X13_alike = 5 := rfl
theorem l_X13_alike : mlc M_X13_alike = 4 := rfl
theorem h_X13_alike : mhh M_X13_alike = [] := rfl
theorem mt_549 : mt 549 = M_X13_truth := rfl
theorem o_X13_truth : mown M_X13_truth = 43 := rfl
theorem r_X13_truth : mrt M_X13_truth = 5 := rfl
theorem l_X13_truth : mlc M_X13_truth = 2 := rfl
theorem h_X13_truth : mhh M_X13_truth = [] := rfl
theorem mt_550 : mt 550 = M_X13_isOne := rfl
theorem o_X13_isOne : mown M_X13_isOne = 43 := rfl
theorem r_X13_isOne : mrt M_X13_isOne = 1 := rfl
theorem l_X13_isOne : mlc M_X13_isOne = 2 := rfl
theorem h_X13_isOne : mhh M_X13_isOne = [] := rfl
theorem mt_551 : mt 551 = M_X13_inSet := rfl
theorem o_X13_inSet : mown M_X13_inSet = 43 := rfl
theorem r_X13_inSet : mrt M_X13_inSet = 5 := rfl
theorem l_X13_inSet : mlc M_X13_inSet = 5 := rfl
theorem h_X13_inSet : mhh M_X13_inSet = [] := rfl
theorem mt_552 : mt 552 = M_X13_goes := rfl
theorem o_X13_goes : mown M_X13_goes = 43 := rfl
theorem r_X13_goes : mrt M_X13_goes = 1 := rfl
theorem l_X13_goes : mlc M_X13_goes = 4 := rfl
theorem h_X13_goes : mhh M_X13_goes = [] := rfl
theorem mt_553 : mt 553 = M_X13_keepsDomain := rfl
theorem o_X13_keepsDomain : mown M_X13_keepsDomain = 43 := rfl
theorem r_X13_keepsDomain : mrt M_X13_keepsDomain = 1 := rfl
theorem l_X13_keepsDomain : mlc M_X13_keepsDomain = 7 := rfl
theorem h_X13_keepsDomain : mhh M_X13_keepsDomain = [] := rfl
theorem mt_554 : mt 554 = M_X13_keepsBounds := rfl
theorem o_X13_keepsBounds : mown M_X13_keepsBounds = 43 := rfl
theorem r_X13_keepsBounds : mrt M_X13_keepsBounds = 1 := rfl
theorem l_X13_keepsBounds : mlc M_X13_keepsBounds = 6 := rfl
theorem h_X13_keepsBounds : mhh M_X13_keepsBounds = [] := rfl
theorem mt_555 : mt 555 = M_X13_keepsMay := rfl
theorem o_X13_keepsMay : mown M_X13_keepsMay = 43 := rfl
theorem r_X13_keepsMay : mrt M_X13_keepsMay = 1 := rfl
theorem l_X13_keepsMay : mlc M_X13_keepsMay = 4 := rfl
theorem h_X13_keepsMay : mhh M_X13_keepsMay = [] := rfl
theorem mt_556 : mt 556 = M_X13_narrowsIf := rfl
theorem o_X13_narrowsIf : mown M_X13_narrowsIf = 43 := rfl
theorem r_X13_narrowsIf : mrt M_X13_narrowsIf = 1 := rfl
theorem l_X13_narrowsIf : mlc M_X13_narrowsIf = 6 := rfl
theorem h_X13_narrowsIf : mhh M_X13_narrowsIf = [] := rfl
theorem mt_557 : mt 557 = M_X13_takes_2 := rfl
theorem o_X13_takes_2 : mown M_X13_takes_2 = 43 := rfl
theorem r_X13_takes_2 : mrt M_X13_takes_2 = 1 := rfl
theorem l_X13_takes_2 : mlc M_X13_takes_2 = 4 := rfl
theorem h_X13_takes_2 : mhh M_X13_takes_2 = [] := rfl
theorem mt_558 : mt 558 = M_X13_meets := rfl
theorem o_X13_meets : mown M_X13_meets = 43 := rfl
theorem r_X13_meets : mrt M_X13_meets = 1 := rfl
theorem l_X13_meets : mlc M_X13_meets = 6 := rfl
theorem h_X13_meets : mhh M_X13_meets = [] := rfl
theorem mt_559 : mt 559 = M_X13_keeps := rfl
theorem o_X13_keeps : mown M_X13_keeps = 43 := rfl
theorem r_X13_keeps : mrt M_X13_keeps = 1 := rfl
theorem l_X13_keeps : mlc M_X13_keeps = 4 := rfl
theorem h_X13_keeps : mhh M_X13_keeps = [] := rfl
theorem mt_560 : mt 560 = M_X13_isShared := rfl
theorem o_X13_isShared : mown M_X13_isShared = 43 := rfl
theorem r_X13_isShared : mrt M_X13_isShared = 1 := rfl
theorem l_X13_isShared : mlc M_X13_isShared = 4 := rfl
theorem h_X13_isShared : mhh M_X13_isShared = [] := rfl
theorem mt_561 : mt 561 = M_X13_narrowsNumber := rfl
theorem o_X13_narrowsNumber : mown M_X13_narrowsNumber = 43 := rfl
theorem r_X13_narrowsNumber : mrt M_X13_narrowsNumber = 1 := rfl
theorem l_X13_narrowsNumber : mlc M_X13_narrowsNumber = 8 := rfl
theorem h_X13_narrowsNumber : mhh M_X13_narrowsNumber = [] := rfl
theorem mt_562 : mt 562 = M_X13_meets_2 := rfl
theorem o_X13_meets_2 : mown M_X13_meets_2 = 43 := rfl
theorem r_X13_meets_2 : mrt M_X13_meets_2 = 1 := rfl
theorem l_X13_meets_2 : mlc M_X13_meets_2 = 2 := rfl
theorem h_X13_meets_2 : mhh M_X13_meets_2 = [] := rfl
theorem mt_563 : mt 563 = M_X13_narrowsAbs := rfl
theorem o_X13_narrowsAbs : mown M_X13_narrowsAbs = 43 := rfl
theorem r_X13_narrowsAbs : mrt M_X13_narrowsAbs = 1 := rfl
theorem l_X13_narrowsAbs : mlc M_X13_narrowsAbs = 6 := rfl
theorem h_X13_narrowsAbs : mhh M_X13_narrowsAbs = [] := rfl
theorem mt_564 : mt 564 = M_X13_narrowsTrue := rfl
theorem o_X13_narrowsTrue : mown M_X13_narrowsTrue = 43 := rfl
theorem r_X13_narrowsTrue : mrt M_X13_narrowsTrue = 1 := rfl
theorem l_X13_narrowsTrue : mlc M_X13_narrowsTrue = 4 := rfl
theorem h_X13_narrowsTrue : mhh M_X13_narrowsTrue = [] := rfl
theorem mt_565 : mt 565 = M_X13_same := rfl
theorem o_X13_same : mown M_X13_same = 43 := rfl
theorem r_X13_same : mrt M_X13_same = 1 := rfl
theorem l_X13_same : mlc M_X13_same = 4 := rfl
theorem h_X13_same : mhh M_X13_same = [] := rfl
theorem mt_566 : mt 566 = M_X13_unlike := rfl
theorem o_X13_unlike : mown M_X13_unlike = 43 := rfl
theorem r_X13_unlike : mrt M_X13_unlike = 1 := rfl
theorem l_X13_unlike : mlc M_X13_unlike = 4 := rfl
theorem h_X13_unlike : mhh M_X13_unlike = [] := rfl
theorem mt_567 : mt 567 = M_X13_isOut := rfl
theorem o_X13_isOut : mown M_X13_isOut = 43 := rfl
theorem r_X13_isOut : mrt M_X13_isOut = 1 := rfl
theorem l_X13_isOut : mlc M_X13_isOut = 8 := rfl
theorem h_X13_isOut : mhh M_X13_isOut = [] := rfl
theorem mt_568 : mt 568 = M_X13_ordered := rfl
theorem o_X13_ordered : mown M_X13_ordered = 43 := rfl
theorem r_X13_ordered : mrt M_X13_ordered = 1 := rfl
theorem l_X13_ordered : mlc M_X13_ordered = 3 := rfl
theorem h_X13_ordered : mhh M_X13_ordered = [] := rfl
theorem mt_569 : mt 569 = M_X13_inLeast := rfl
theorem o_X13_inLeast : mown M_X13_inLeast = 43 := rfl
theorem r_X13_inLeast : mrt M_X13_inLeast = 1 := rfl
theorem l_X13_inLeast : mlc M_X13_inLeast = 8 := rfl
theorem h_X13_inLeast : mhh M_X13_inLeast = [] := rfl
theorem mt_570 : mt 570 = M_X13_narrowsFalse := rfl
theorem o_X13_narrowsFalse : mown M_X13_narrowsFalse = 43 := rfl
theorem r_X13_narrowsFalse : mrt M_X13_narrowsFalse = 1 := rfl
theorem l_X13_narrowsFalse : mlc M_X13_narrowsFalse = 4 := rfl
theorem h_X13_narrowsFalse : mhh M_X13_narrowsFalse = [] := rfl
theorem mt_571 : mt 571 = M_X13_areOut := rfl
theorem o_X13_areOut : mown M_X13_areOut = 43 := rfl
theorem r_X13_areOut : mrt M_X13_areOut = 1 := rfl
theorem l_X13_areOut : mlc M_X13_areOut = 9 := rfl
theorem h_X13_areOut : mhh M_X13_areOut = [] := rfl
theorem mt_572 : mt 572 = M_X13_isNarrower := rfl
theorem o_X13_isNarrower : mown M_X13_isNarrower = 43 := rfl
theorem r_X13_isNarrower : mrt M_X13_isNarrower = 1 := rfl
theorem l_X13_isNarrower : mlc M_X13_isNarrower = 7 := rfl
theorem h_X13_isNarrower : mhh M_X13_isNarrower = [] := rfl
theorem mt_573 : mt 573 = M_X13_tells := rfl
theorem o_X13_tells : mown M_X13_tells = 43 := rfl
theorem r_X13_tells : mrt M_X13_tells = 10 := rfl
theorem l_X13_tells : mlc M_X13_tells = 1 := rfl
theorem h_X13_tells : mhh M_X13_tells = [] := rfl
theorem mt_574 : mt 574 = M_X13_end := rfl
theorem o_X13_end : mown M_X13_end = 43 := rfl
theorem r_X13_end : mrt M_X13_end = 1 := rfl
theorem l_X13_end : mlc M_X13_end = 1 := rfl
theorem h_X13_end : mhh M_X13_end = [] := rfl
theorem mt_575 : mt 575 = M_X13_search := rfl
theorem o_X13_search : mown M_X13_search = 43 := rfl
theorem r_X13_search : mrt M_X13_search = 1 := rfl
theorem l_X13_search : mlc M_X13_search = 4 := rfl
theorem h_X13_search : mhh M_X13_search = [] := rfl
theorem mt_576 : mt 576 = M_X13_push := rfl
theorem o_X13_push : mown M_X13_push = 43 := rfl
theorem r_X13_push : mrt M_X13_push = 10 := rfl
theorem l_X13_push : mlc M_X13_push = 2 := rfl
theorem h_X13_push : mhh M_X13_push = [] := rfl
theorem mt_577 : mt 577 = M_X13_steps := rfl
theorem o_X13_steps : mown M_X13_steps = 43 := rfl
theorem r_X13_steps : mrt M_X13_steps = 0 := rfl
theorem l_X13_steps : mlc M_X13_steps = 6 := rfl
theorem h_X13_steps : mhh M_X13_steps = [] := rfl
theorem mt_578 : mt 578 = M_X13_step := rfl
theorem o_X13_step : mown M_X13_step = 43 := rfl
theorem r_X13_step : mrt M_X13_step = 0 := rfl
theorem l_X13_step : mlc M_X13_step = 5 := rfl
theorem h_X13_step : mhh M_X13_step = [] := rfl
theorem mt_579 : mt 579 = M_X13_pop := rfl
theorem o_X13_pop : mown M_X13_pop = 43 := rfl
theorem r_X13_pop : mrt M_X13_pop = 10 := rfl
theorem l_X13_pop : mlc M_X13_pop = 2 := rfl
theorem h_X13_pop : mhh M_X13_pop = [] := rfl
theorem mt_580 : mt 580 = M_X13_isFixed := rfl
theorem o_X13_isFixed : mown M_X13_isFixed = 43 := rfl
theorem r_X13_isFixed : mrt M_X13_isFixed = 1 := rfl
theorem l_X13_isFixed : mlc M_X13_isFixed = 2 := rfl
theorem h_X13_isFixed : mhh M_X13_isFixed = [] := rfl
theorem mt_581 : mt 581 = M_X13_next := rfl
theorem o_X13_next : mown M_X13_next = 43 := rfl
theorem r_X13_next : mrt M_X13_next = 7 := rfl
theorem l_X13_next : mlc M_X13_next = 2 := rfl
theorem h_X13_next : mhh M_X13_next = [] := rfl
theorem mt_582 : mt 582 = M_X13_splits := rfl
theorem o_X13_splits : mown M_X13_splits = 43 := rfl
theorem r_X13_splits : mrt M_X13_splits = 10 := rfl
theorem l_X13_splits : mlc M_X13_splits = 8 := rfl
theorem h_X13_splits : mhh M_X13_splits = [] := rfl
theorem mt_583 : mt 583 = M_X13_middle := rfl
theorem o_X13_middle : mown M_X13_middle = 43 := rfl
theorem r_X13_middle : mrt M_X13_middle = 7 := rfl
theorem l_X13_middle : mlc M_X13_middle = 8 := rfl
theorem h_X13_middle : mhh M_X13_middle = [] := rfl
theorem mt_584 : mt 584 = M_X13_looksAgain := rfl
theorem o_X13_looksAgain : mown M_X13_looksAgain = 43 := rfl
theorem r_X13_looksAgain : mrt M_X13_looksAgain = 0 := rfl
theorem l_X13_looksAgain : mlc M_X13_looksAgain = 3 := rfl
theorem h_X13_looksAgain : mhh M_X13_looksAgain = [] := rfl
theorem mt_585 : mt 585 = M_X13_keepsBest := rfl
theorem o_X13_keepsBest : mown M_X13_keepsBest = 43 := rfl
theorem r_X13_keepsBest : mrt M_X13_keepsBest = 10 := rfl
theorem l_X13_keepsBest : mlc M_X13_keepsBest = 3 := rfl
theorem h_X13_keepsBest : mhh M_X13_keepsBest = [] := rfl
theorem mt_586 : mt 586 = M_X13_look := rfl
theorem o_X13_look : mown M_X13_look = 43 := rfl
theorem r_X13_look : mrt M_X13_look = 0 := rfl
theorem l_X13_look : mlc M_X13_look = 2 := rfl
theorem h_X13_look : mhh M_X13_look = [] := rfl
theorem mt_587 : mt 587 = M_X13_count := rfl
theorem o_X13_count : mown M_X13_count = 43 := rfl
theorem r_X13_count : mrt M_X13_count = 0 := rfl
theorem l_X13_count : mlc M_X13_count = 2 := rfl
theorem h_X13_count : mhh M_X13_count = [] := rfl
theorem mt_588 : mt 588 = M_X13_sort := rfl
theorem o_X13_sort : mown M_X13_sort = 43 := rfl
theorem r_X13_sort : mrt M_X13_sort = 0 := rfl
theorem l_X13_sort : mlc M_X13_sort = 2 := rfl
theorem h_X13_sort : mhh M_X13_sort = [] := rfl
theorem mt_589 : mt 589 = M_X13_isVariable := rfl
theorem o_X13_isVariable : mown M_X13_isVariable = 43 := rfl
theorem r_X13_isVariable : mrt M_X13_isVariable = 1 := rfl
theorem l_X13_isVariable : mlc M_X13_isVariable = 2 := rfl
theorem h_X13_isVariable : mhh M_X13_isVariable = [] := rfl
theorem mt_590 : mt 590 = M_X13_fails0 := rfl
theorem o_X13_fails0 : mown M_X13_fails0 = 43 := rfl
theorem r_X13_fails0 : mrt M_X13_fails0 = 0 := rfl
theorem l_X13_fails0 : mlc M_X13_fails0 = 2 := rfl
theorem h_X13_fails0 : mhh M_X13_fails0 = [] := rfl
theorem mt_591 : mt 591 = M_X13_size := rfl
theorem o_X13_size : mown M_X13_size = 43 := rfl
theorem r_X13_size : mrt M_X13_size = 0 := rfl
theorem l_X13_size : mlc M_X13_size = 2 := rfl
theorem h_X13_size : mhh M_X13_size = [] := rfl
theorem mt_592 : mt 592 = M_X13_sizeOf := rfl
theorem o_X13_sizeOf : mown M_X13_sizeOf = 43 := rfl
theorem r_X13_sizeOf : mrt M_X13_sizeOf = 0 := rfl
theorem l_X13_sizeOf : mlc M_X13_sizeOf = 3 := rfl
theorem h_X13_sizeOf : mhh M_X13_sizeOf = [] := rfl
theorem mt_593 : mt 593 = M_X13_thing := rfl
theorem o_X13_thing : mown M_X13_thing = 43 := rfl
theorem r_X13_thing : mrt M_X13_thing = 5 := rfl
theorem l_X13_thing : mlc M_X13_thing = 3 := rfl
theorem h_X13_thing : mhh M_X13_thing = [] := rfl
theorem mt_594 : mt 594 = M_X13_thingOf := rfl
theorem o_X13_thingOf : mown M_X13_thingOf = 43 := rfl
theorem r_X13_thingOf : mrt M_X13_thingOf = 5 := rfl
theorem l_X13_thingOf : mlc M_X13_thingOf = 13 := rfl
theorem h_X13_thingOf : mhh M_X13_thingOf = [] := rfl
theorem mt_595 : mt 595 = M_X13_bits := rfl
theorem o_X13_bits : mown M_X13_bits = 43 := rfl
theorem r_X13_bits : mrt M_X13_bits = 5 := rfl
theorem l_X13_bits : mlc M_X13_bits = 4 := rfl
theorem h_X13_bits : mhh M_X13_bits = [] := rfl
theorem mt_596 : mt 596 = M_X13_row_2 := rfl
theorem o_X13_row_2 : mown M_X13_row_2 = 43 := rfl
theorem r_X13_row_2 : mrt M_X13_row_2 = 0 := rfl
theorem l_X13_row_2 : mlc M_X13_row_2 = 3 := rfl
theorem h_X13_row_2 : mhh M_X13_row_2 = [] := rfl
theorem mt_597 : mt 597 = M_X13_weight := rfl
theorem o_X13_weight : mown M_X13_weight = 43 := rfl
theorem r_X13_weight : mrt M_X13_weight = 0 := rfl
theorem l_X13_weight : mlc M_X13_weight = 3 := rfl
theorem h_X13_weight : mhh M_X13_weight = [] := rfl
theorem mt_598 : mt 598 = M_X13_rule := rfl
theorem o_X13_rule : mown M_X13_rule = 43 := rfl
theorem r_X13_rule : mrt M_X13_rule = 0 := rfl
theorem l_X13_rule : mlc M_X13_rule = 5 := rfl
theorem h_X13_rule : mhh M_X13_rule = [] := rfl
theorem mt_599 : mt 599 = M_X13_aim := rfl
theorem o_X13_aim : mown M_X13_aim = 43 := rfl
theorem r_X13_aim : mrt M_X13_aim = 5 := rfl
theorem l_X13_aim : mlc M_X13_aim = 2 := rfl
theorem h_X13_aim : mhh M_X13_aim = [] := rfl
theorem mt_600 : mt 600 = M_X13_best := rfl
theorem o_X13_best : mown M_X13_best = 43 := rfl
theorem r_X13_best : mrt M_X13_best = 5 := rfl
theorem l_X13_best : mlc M_X13_best = 3 := rfl
theorem h_X13_best : mhh M_X13_best = [] := rfl
theorem mt_601 : mt 601 = M_X1_statement := rfl
theorem o_X1_statement : mown M_X1_statement = 31 := rfl
theorem r_X1_statement : mrt M_X1_statement = 0 := rfl
theorem l_X1_statement : mlc M_X1_statement = 2 := rfl
theorem h_X1_statement : mhh M_X1_statement = [(0, 15, 16, [44, 1005, 1014, 1012, 1034, 1035, 1037, 1038, 1039, 1040, 1042, 1043, 1004]), (0, 15, 27, [4, 1005, 1014, 1012, 1034, 1035, 1037, 1038, 1039, 1040, 1042, 1043, 1044])] := rfl
theorem mt_602 : mt 602 = M_X4_over := rfl
theorem o_X4_over : mown M_X4_over = 34 := rfl
theorem r_X4_over : mrt M_X4_over = 0 := rfl
theorem l_X4_over : mlc M_X4_over = 4 := rfl
theorem h_X4_over : mhh M_X4_over = [(0, 3, 4, [12, 1005, 1014, 1034, 1035, 1037, 1038, 1039, 1040, 1042, 1043, 1044, 1004])] := rfl
theorem mt_603 : mt 603 = M_X4_rest := rfl
theorem o_X4_rest : mown M_X4_rest = 34 := rfl
theorem r_X4_rest : mrt M_X4_rest = 0 := rfl
theorem l_X4_rest : mlc M_X4_rest = 4 := rfl
theorem h_X4_rest : mhh M_X4_rest = [(0, 3, 4, [12, 1005, 1014, 1034, 1035, 1037, 1038, 1039, 1040, 1042, 1043, 1044, 1004])] := rfl
theorem mt_604 : mt 604 = M_X4_placed := rfl
theorem o_X4_placed : mown M_X4_placed = 34 := rfl
theorem r_X4_placed : mrt M_X4_placed = 8 := rfl
theorem l_X4_placed : mlc M_X4_placed = 8 := rfl
theorem h_X4_placed : mhh M_X4_placed = [(72, 78, 81, [14, 1005, 1012, 1034, 1035, 1037, 1038, 1039, 1040, 1042, 1043, 1044, 1004]), (92, 99, 102, [5, 1014, 1012, 1034, 1035, 1037, 1038, 1039, 1040, 1042, 1043, 1044, 1004])] := rfl
theorem mt_605 : mt 605 = M_X4_hold := rfl
theorem o_X4_hold : mown M_X4_hold = 34 := rfl
theorem r_X4_hold : mrt M_X4_hold = 10 := rfl
theorem l_X4_hold : mlc M_X4_hold = 4 := rfl
theorem h_X4_hold : mhh M_X4_hold = [(0, 5, 8, [5, 1014, 1012, 1034, 1035, 1037, 1038, 1039, 1040, 1042, 1043, 1044, 1004])] := rfl
theorem mt_606 : mt 606 = M_X4_total := rfl
theorem o_X4_total : mown M_X4_total = 34 := rfl
theorem r_X4_total : mrt M_X4_total = 10 := rfl
theorem l_X4_total : mlc M_X4_total = 6 := rfl
theorem h_X4_total : mhh M_X4_total = [(0, 6, 9, [5, 1014, 1012, 1034, 1035, 1037, 1038, 1039, 1040, 1042, 1043, 1044, 1004])] := rfl
theorem mt_607 : mt 607 = M_X4_sortOf := rfl
theorem o_X4_sortOf : mown M_X4_sortOf = 34 := rfl
theorem r_X4_sortOf : mrt M_X4_sortOf = 0 := rfl
theorem l_X4_sortOf : mlc M_X4_sortOf = 3 := rfl
theorem h_X4_sortOf : mhh M_X4_sortOf = [(0, 4, 5, [5, 1014, 1012, 1034, 1035, 1037, 1038, 1039, 1040, 1042, 1043, 1044, 1004])] := rfl
theorem mt_608 : mt 608 = M_X12_give := rfl
theorem o_X12_give : mown M_X12_give = 42 := rfl
theorem r_X12_give : mrt M_X12_give = 10 := rfl
theorem l_X12_give : mlc M_X12_give = 5 := rfl
theorem h_X12_give : mhh M_X12_give = [(0, 5, 8, [35, 1005, 1014, 1012, 1034, 1037, 1038, 1039, 1040, 1042, 1043, 1044, 1004])] := rfl
theorem mt_609 : mt 609 = M_X8_give := rfl
theorem o_X8_give : mown M_X8_give = 38 := rfl
theorem r_X8_give : mrt M_X8_give = 10 := rfl
theorem l_X8_give : mlc M_X8_give = 5 := rfl
theorem h_X8_give : mhh M_X8_give = [(0, 5, 8, [35, 1005, 1014, 1012, 1034, 1037, 1038, 1039, 1040, 1042, 1043, 1044, 1004])] := rfl
theorem mt_610 : mt 610 = M_X9_give := rfl
theorem o_X9_give : mown M_X9_give = 39 := rfl
theorem r_X9_give : mrt M_X9_give = 10 := rfl
theorem l_X9_give : mlc M_X9_give = 5 := rfl
theorem h_X9_give : mhh M_X9_give = [(0, 5, 8, [35, 1005, 1014, 1012, 1034, 1037, 1038, 1039, 1040, 1042, 1043, 1044, 1004])] := rfl
theorem mt_611 : mt 611 = M_X11_give := rfl
theorem o_X11_give : mown M_X11_give = 41 := rfl
theorem r_X11_give : mrt M_X11_give = 10 := rfl
theorem l_X11_give : mlc M_X11_give = 5 := rfl
theorem h_X11_give : mhh M_X11_give = [(0, 5, 8, [35, 1005, 1014, 1012, 1034, 1037, 1038, 1039, 1040, 1042, 1043, 1044, 1004])] := rfl
theorem mt_612 : mt 612 = M_X10_give := rfl
theorem o_X10_give : mown M_X10_give = 40 := rfl
theorem r_X10_give : mrt M_X10_give = 10 := rfl
theorem l_X10_give : mlc M_X10_give = 5 := rfl
theorem h_X10_give : mhh M_X10_give = [(17, 22, 25, [35, 1005, 1014, 1012, 1034, 1037, 1038, 1039, 1040, 1042, 1043, 1044, 1004])] := rfl
theorem mt_613 : mt 613 = M_X4_reals := rfl
theorem o_X4_reals : mown M_X4_reals = 34 := rfl
theorem r_X4_reals : mrt M_X4_reals = 8 := rfl
theorem l_X4_reals : mlc M_X4_reals = 3 := rfl
theorem h_X4_reals : mhh M_X4_reals = [(0, 4, 5, [34, 1005, 1014, 1012, 1035, 1037, 1038, 1039, 1040, 1042, 1043, 1044, 1004])] := rfl
theorem mt_614 : mt 614 = M_X4_smalls := rfl
theorem o_X4_smalls : mown M_X4_smalls = 34 := rfl
theorem r_X4_smalls : mrt M_X4_smalls = 8 := rfl
theorem l_X4_smalls : mlc M_X4_smalls = 3 := rfl
theorem h_X4_smalls : mhh M_X4_smalls = [(0, 4, 5, [34, 1005, 1014, 1012, 1035, 1037, 1038, 1039, 1040, 1042, 1043, 1044, 1004])] := rfl
theorem mt_615 : mt 615 = M_X4_wholes := rfl
theorem o_X4_wholes : mown M_X4_wholes = 34 := rfl
theorem r_X4_wholes : mrt M_X4_wholes = 8 := rfl
theorem l_X4_wholes : mlc M_X4_wholes = 3 := rfl
theorem h_X4_wholes : mhh M_X4_wholes = [(0, 4, 5, [34, 1005, 1014, 1012, 1035, 1037, 1038, 1039, 1040, 1042, 1043, 1044, 1004])] := rfl
theorem mt_616 : mt 616 = M_X4_truths := rfl
theorem o_X4_truths : mown M_X4_truths = 34 := rfl
theorem r_X4_truths : mrt M_X4_truths = 8 := rfl
theorem l_X4_truths : mlc M_X4_truths = 3 := rfl
theorem h_X4_truths : mhh M_X4_truths = [(0, 4, 5, [34, 1005, 1014, 1012, 1035, 1037, 1038, 1039, 1040, 1042, 1043, 1044, 1004])] := rfl
theorem mt_617 : mt 617 = M_X4_lettersOf := rfl
theorem o_X4_lettersOf : mown M_X4_lettersOf = 34 := rfl
theorem r_X4_lettersOf : mrt M_X4_lettersOf = 8 := rfl
theorem l_X4_lettersOf : mlc M_X4_lettersOf = 3 := rfl
theorem h_X4_lettersOf : mhh M_X4_lettersOf = [(0, 4, 5, [34, 1005, 1014, 1012, 1035, 1037, 1038, 1039, 1040, 1042, 1043, 1044, 1004])] := rfl
theorem mt_618 : mt 618 = M_X4_anys := rfl
theorem o_X4_anys : mown M_X4_anys = 34 := rfl
theorem r_X4_anys : mrt M_X4_anys = 8 := rfl
theorem l_X4_anys : mlc M_X4_anys = 3 := rfl
theorem h_X4_anys : mhh M_X4_anys = [(0, 4, 5, [34, 1005, 1014, 1012, 1035, 1037, 1038, 1039, 1040, 1042, 1043, 1044, 1004])] := rfl
theorem mt_619 : mt 619 = M_X4_put := rfl
theorem o_X4_put : mown M_X4_put = 34 := rfl
theorem r_X4_put : mrt M_X4_put = 10 := rfl
theorem l_X4_put : mlc M_X4_put = 5 := rfl
theorem h_X4_put : mhh M_X4_put = [(0, 4, 7, [14, 1005, 1012, 1034, 1035, 1037, 1038, 1039, 1040, 1042, 1043, 1044, 1004]), (0, 4, 18, [37, 1005, 1014, 1012, 1034, 1035, 1038, 1039, 1040, 1042, 1043, 1044, 1004])] := rfl
theorem mt_620 : mt 620 = M_X4_copy := rfl
theorem o_X4_copy : mown M_X4_copy = 34 := rfl
theorem r_X4_copy : mrt M_X4_copy = 10 := rfl
theorem l_X4_copy : mlc M_X4_copy = 8 := rfl
theorem h_X4_copy : mhh M_X4_copy = [(72, 89, 92, [14, 1005, 1012, 1034, 1035, 1037, 1038, 1039, 1040, 1042, 1043, 1044, 1004])] := rfl
theorem mt_621 : mt 621 = M_X3_narrow := rfl
theorem o_X3_narrow : mown M_X3_narrow = 33 := rfl
theorem r_X3_narrow : mrt M_X3_narrow = 0 := rfl
theorem l_X3_narrow : mlc M_X3_narrow = 2 := rfl
theorem h_X3_narrow : mhh M_X3_narrow = [(14, 18, 19, [42, 1005, 1014, 1012, 1034, 1035, 1037, 1038, 1039, 1040, 1043, 1044, 1004]), (14, 18, 23, [43, 1005, 1014, 1012, 1034, 1035, 1037, 1038, 1039, 1040, 1042, 1044, 1004])] := rfl
theorem mt_622 : mt 622 = M_X8_low := rfl
theorem o_X8_low : mown M_X8_low = 38 := rfl
theorem r_X8_low : mrt M_X8_low = 7 := rfl
theorem l_X8_low : mlc M_X8_low = 3 := rfl
theorem h_X8_low : mhh M_X8_low = [(8, 11, 12, [5, 1014, 1012, 1034, 1035, 1037, 1038, 1039, 1040, 1042, 1043, 1044, 1004])] := rfl
theorem mt_623 : mt 623 = M_X9_low := rfl
theorem o_X9_low : mown M_X9_low = 39 := rfl
theorem r_X9_low : mrt M_X9_low = 7 := rfl
theorem l_X9_low : mlc M_X9_low = 3 := rfl
theorem h_X9_low : mhh M_X9_low = [(8, 12, 13, [5, 1014, 1012, 1034, 1035, 1037, 1038, 1039, 1040, 1042, 1043, 1044, 1004])] := rfl
theorem mt_624 : mt 624 = M_X10_low := rfl
theorem o_X10_low : mown M_X10_low = 40 := rfl
theorem r_X10_low : mrt M_X10_low = 7 := rfl
theorem l_X10_low : mlc M_X10_low = 3 := rfl
theorem h_X10_low : mhh M_X10_low = [(8, 12, 13, [5, 1014, 1012, 1034, 1035, 1037, 1038, 1039, 1040, 1042, 1043, 1044, 1004])] := rfl
theorem mt_625 : mt 625 = M_X3_narrows := rfl
theorem o_X3_narrows : mown M_X3_narrows = 33 := rfl
theorem r_X3_narrows : mrt M_X3_narrows = 10 := rfl
theorem l_X3_narrows : mlc M_X3_narrows = 6 := rfl
theorem h_X3_narrows : mhh M_X3_narrows = [(39, 58, 87, []), (87, 89, 87, [])] := rfl
theorem mt_626 : mt 626 = M_X11_may := rfl
theorem o_X11_may : mown M_X11_may = 41 := rfl
theorem r_X11_may : mrt M_X11_may = 1 := rfl
theorem l_X11_may : mlc M_X11_may = 4 := rfl
theorem h_X11_may : mhh M_X11_may = [(8, 19, 20, [5, 1014, 1012, 1034, 1035, 1037, 1038, 1039, 1040, 1042, 1043, 1044, 1004])] := rfl
theorem mt_627 : mt 627 = M_X12_letters := rfl
theorem o_X12_letters : mown M_X12_letters = 42 := rfl
theorem r_X12_letters : mrt M_X12_letters = 0 := rfl
theorem l_X12_letters : mlc M_X12_letters = 5 := rfl
theorem h_X12_letters : mhh M_X12_letters = [(8, 12, 15, [5, 1014, 1012, 1034, 1035, 1037, 1038, 1039, 1040, 1042, 1043, 1044, 1004])] := rfl
theorem mt_628 : mt 628 = M_X12_thing := rfl
theorem o_X12_thing : mown M_X12_thing = 42 := rfl
theorem r_X12_thing : mrt M_X12_thing = 5 := rfl
theorem l_X12_thing : mlc M_X12_thing = 5 := rfl
theorem h_X12_thing : mhh M_X12_thing = [(8, 12, 15, [5, 1014, 1012, 1034, 1035, 1037, 1038, 1039, 1040, 1042, 1043, 1044, 1004]), (8, 12, 21, [14, 1005, 1012, 1034, 1035, 1037, 1038, 1039, 1040, 1042, 1043, 1044, 1004])] := rfl
theorem mt_629 : mt 629 = M_X8_thing := rfl
theorem o_X8_thing : mown M_X8_thing = 38 := rfl
theorem r_X8_thing : mrt M_X8_thing = 5 := rfl
theorem l_X8_thing : mlc M_X8_thing = 6 := rfl
theorem h_X8_thing : mhh M_X8_thing = [(8, 12, 15, [5, 1014, 1012, 1034, 1035, 1037, 1038, 1039, 1040, 1042, 1043, 1044, 1004]), (8, 12, 21, [14, 1005, 1012, 1034, 1035, 1037, 1038, 1039, 1040, 1042, 1043, 1044, 1004])] := rfl
theorem mt_630 : mt 630 = M_X9_thing := rfl
theorem o_X9_thing : mown M_X9_thing = 39 := rfl
theorem r_X9_thing : mrt M_X9_thing = 5 := rfl
theorem l_X9_thing : mlc M_X9_thing = 5 := rfl
theorem h_X9_thing : mhh M_X9_thing = [(8, 12, 15, [5, 1014, 1012, 1034, 1035, 1037, 1038, 1039, 1040, 1042, 1043, 1044, 1004]), (8, 12, 21, [14, 1005, 1012, 1034, 1035, 1037, 1038, 1039, 1040, 1042, 1043, 1044, 1004])] := rfl
theorem mt_631 : mt 631 = M_X11_thing := rfl
theorem o_X11_thing : mown M_X11_thing = 41 := rfl
theorem r_X11_thing : mrt M_X11_thing = 5 := rfl
theorem l_X11_thing : mlc M_X11_thing = 5 := rfl
theorem h_X11_thing : mhh M_X11_thing = [(8, 12, 15, [5, 1014, 1012, 1034, 1035, 1037, 1038, 1039, 1040, 1042, 1043, 1044, 1004])] := rfl
theorem mt_632 : mt 632 = M_X10_thing := rfl
theorem o_X10_thing : mown M_X10_thing = 40 := rfl
theorem r_X10_thing : mrt M_X10_thing = 5 := rfl
theorem l_X10_thing : mlc M_X10_thing = 5 := rfl
theorem h_X10_thing : mhh M_X10_thing = [(8, 12, 15, [5, 1014, 1012, 1034, 1035, 1037, 1038, 1039, 1040, 1042, 1043, 1044, 1004]), (8, 12, 21, [14, 1005, 1012, 1034, 1035, 1037, 1038, 1039, 1040, 1042, 1043, 1044, 1004])] := rfl
theorem mt_633 : mt 633 = M_X3_step := rfl
theorem o_X3_step : mown M_X3_step = 33 := rfl
theorem r_X3_step : mrt M_X3_step = 0 := rfl
theorem l_X3_step : mlc M_X3_step = 2 := rfl
theorem h_X3_step : mhh M_X3_step = [(28, 44, 47, [42, 1005, 1014, 1012, 1034, 1035, 1037, 1038, 1039, 1040, 1043, 1044, 1004]), (28, 44, 60, [43, 1005, 1014, 1012, 1034, 1035, 1037, 1038, 1039, 1040, 1042, 1044, 1004])] := rfl
theorem mt_634 : mt 634 = M_X3_judged := rfl
theorem o_X3_judged : mown M_X3_judged = 33 := rfl
theorem r_X3_judged : mrt M_X3_judged = 0 := rfl
theorem l_X3_judged : mlc M_X3_judged = 3 := rfl
theorem h_X3_judged : mhh M_X3_judged = [(0, 5, 8, [42, 1005, 1014, 1012, 1034, 1035, 1037, 1038, 1039, 1040, 1043, 1044, 1004]), (0, 5, 12, [43, 1005, 1014, 1012, 1034, 1035, 1037, 1038, 1039, 1040, 1042, 1044, 1004])] := rfl
theorem mt_635 : mt 635 = M_X0_sort := rfl
theorem o_X0_sort : mown M_X0_sort = 30 := rfl
theorem r_X0_sort : mrt M_X0_sort = 0 := rfl
theorem l_X0_sort : mlc M_X0_sort = 4 := rfl
theorem h_X0_sort : mhh M_X0_sort = [(0, 9, 12, [40, 1005, 1014, 1012, 1034, 1035, 1037, 1038, 1039, 1042, 1043, 1044, 1004])] := rfl
theorem mt_636 : mt 636 = M_X0_size := rfl
theorem o_X0_size : mown M_X0_size = 30 := rfl
theorem r_X0_size : mrt M_X0_size = 0 := rfl
theorem l_X0_size : mlc M_X0_size = 4 := rfl
theorem h_X0_size : mhh M_X0_size = [(0, 9, 12, [40, 1005, 1014, 1012, 1034, 1035, 1037, 1038, 1039, 1042, 1043, 1044, 1004])] := rfl
theorem mt_637 : mt 637 = M_X0_thing := rfl
theorem o_X0_thing : mown M_X0_thing = 30 := rfl
theorem r_X0_thing : mrt M_X0_thing = 0 := rfl
theorem l_X0_thing : mlc M_X0_thing = 5 := rfl
theorem h_X0_thing : mhh M_X0_thing = [(0, 9, 12, [40, 1005, 1014, 1012, 1034, 1035, 1037, 1038, 1039, 1042, 1043, 1044, 1004]), (0, 9, 16, [38, 1005, 1014, 1012, 1034, 1035, 1037, 1039, 1040, 1042, 1043, 1044, 1004]), (0, 9, 20, [14, 39, 1005, 1012, 1034, 1035, 1037, 1038, 1040, 1042, 1043, 1044, 1004])] := rfl
theorem mt_638 : mt 638 = M_X0_row := rfl
theorem o_X0_row : mown M_X0_row = 30 := rfl
theorem r_X0_row : mrt M_X0_row = 0 := rfl
theorem l_X0_row : mlc M_X0_row = 5 := rfl
theorem h_X0_row : mhh M_X0_row = [(0, 10, 13, [40, 1005, 1014, 1012, 1034, 1035, 1037, 1038, 1039, 1042, 1043, 1044, 1004]), (0, 10, 17, [14, 39, 1005, 1012, 1034, 1035, 1037, 1038, 1040, 1042, 1043, 1044, 1004])] := rfl
theorem mt_639 : mt 639 = M_X1_row := rfl
theorem o_X1_row : mown M_X1_row = 31 := rfl
theorem r_X1_row : mrt M_X1_row = 0 := rfl
theorem l_X1_row : mlc M_X1_row = 6 := rfl
theorem h_X1_row : mhh M_X1_row = [(47, 55, 58, [14, 1005, 1012, 1034, 1035, 1037, 1038, 1039, 1040, 1042, 1043, 1044, 1004]), (68, 73, 74, [5, 1014, 1012, 1034, 1035, 1037, 1038, 1039, 1040, 1042, 1043, 1044, 1004])] := rfl
theorem mt_640 : mt 640 = M_X0_weight := rfl
theorem o_X0_weight : mown M_X0_weight = 30 := rfl
theorem r_X0_weight : mrt M_X0_weight = 0 := rfl
theorem l_X0_weight : mlc M_X0_weight = 5 := rfl
theorem h_X0_weight : mhh M_X0_weight = [(0, 10, 13, [40, 1005, 1014, 1012, 1034, 1035, 1037, 1038, 1039, 1042, 1043, 1044, 1004]), (0, 10, 17, [38, 1005, 1014, 1012, 1034, 1035, 1037, 1039, 1040, 1042, 1043, 1044, 1004]), (0, 10, 21, [14, 39, 1005, 1012, 1034, 1035, 1037, 1038, 1040, 1042, 1043, 1044, 1004])] := rfl
theorem mt_641 : mt 641 = M_X1_weight := rfl
theorem o_X1_weight : mown M_X1_weight = 31 := rfl
theorem r_X1_weight : mrt M_X1_weight = 0 := rfl
theorem l_X1_weight : mlc M_X1_weight = 5 := rfl
theorem h_X1_weight : mhh M_X1_weight = [(9, 12, 13, [5, 1014, 1012, 1034, 1035, 1037, 1038, 1039, 1040, 1042, 1043, 1044, 1004]), (9, 12, 23, [14, 1005, 1012, 1034, 1035, 1037, 1038, 1039, 1040, 1042, 1043, 1044, 1004])] := rfl
theorem mt_642 : mt 642 = M_X0_rule := rfl
theorem o_X0_rule : mown M_X0_rule = 30 := rfl
theorem r_X0_rule : mrt M_X0_rule = 0 := rfl
theorem l_X0_rule : mlc M_X0_rule = 4 := rfl
theorem h_X0_rule : mhh M_X0_rule = [(0, 9, 12, [40, 1005, 1014, 1012, 1034, 1035, 1037, 1038, 1039, 1042, 1043, 1044, 1004])] := rfl
theorem mt_643 : mt 643 = M_X0_aim := rfl
theorem o_X0_aim : mown M_X0_aim = 30 := rfl
theorem r_X0_aim : mrt M_X0_aim = 0 := rfl
theorem l_X0_aim : mlc M_X0_aim = 4 := rfl
theorem h_X0_aim : mhh M_X0_aim = [(0, 8, 11, [38, 1005, 1014, 1012, 1034, 1035, 1037, 1039, 1040, 1042, 1043, 1044, 1004]), (0, 8, 14, [14, 39, 1005, 1012, 1034, 1035, 1037, 1038, 1040, 1042, 1043, 1044, 1004])] := rfl
theorem mt_644 : mt 644 = M_X0_best := rfl
theorem o_X0_best : mown M_X0_best = 30 := rfl
theorem r_X0_best : mrt M_X0_best = 0 := rfl
theorem l_X0_best : mlc M_X0_best = 5 := rfl
theorem h_X0_best : mhh M_X0_best = [(0, 9, 12, [38, 1005, 1014, 1012, 1034, 1035, 1037, 1039, 1040, 1042, 1043, 1044, 1004]), (0, 9, 16, [40, 1005, 1014, 1012, 1034, 1035, 1037, 1038, 1039, 1042, 1043, 1044, 1004]), (0, 9, 20, [14, 39, 1005, 1012, 1034, 1035, 1037, 1038, 1040, 1042, 1043, 1044, 1004])] := rfl
theorem mt_645 : mt 645 = M_X3_best := rfl
theorem o_X3_best : mown M_X3_best = 33 := rfl
theorem r_X3_best : mrt M_X3_best = 5 := rfl
theorem l_X3_best : mlc M_X3_best = 7 := rfl
theorem h_X3_best : mhh M_X3_best = [(62, 74, 89, []), (89, 91, 89, [])] := rfl
theorem mt_646 : mt 646 = M_L_law := rfl
theorem o_L_law : mown M_L_law = 30 := rfl
theorem r_L_law : mrt M_L_law = 1 := rfl
theorem l_L_law : mlc M_L_law = 8 := rfl
theorem h_L_law : mhh M_L_law = [] := rfl
