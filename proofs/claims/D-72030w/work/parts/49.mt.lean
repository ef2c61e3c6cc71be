/-! THE METHODS (by gen/bok.py) -/
set_option maxRecDepth 100000
def tJ0_init : ev_T := (yJ0_init, cJ0_init, 1, (Option.none : Option Jvm.ClassFile.FieldType), none)
def tJ1_init : ev_T := (yJ1_init, cJ1_init, 1, (Option.none : Option Jvm.ClassFile.FieldType), none)
def tX1_init : ev_T := (yX1_init, cX1_init, 6, (Option.none : Option Jvm.ClassFile.FieldType), none)
def tJ2_isLatin1 : ev_T := (yJ2_isLatin1, cJ2_isLatin1, 1, (Option.some Jvm.ClassFile.FieldType.boolean), none)
def tJ4_signedHashCode : ev_T := (yJ4_signedHashCode, cJ4_signedHashCode, 6, (Option.some Jvm.ClassFile.FieldType.int), none)
def tJ4_utf16hashCode : ev_T := (yJ4_utf16hashCode, cJ4_utf16hashCode, 6, (Option.some Jvm.ClassFile.FieldType.int), none)
def tJ4_hashCode : ev_T := (yJ4_hashCode, cJ4_hashCode, 6, (Option.some Jvm.ClassFile.FieldType.int), none)
def tJ4_hashCode_2 : ev_T := (yJ4_hashCode_2, cJ4_hashCode_2, 6, (Option.some Jvm.ClassFile.FieldType.int), none)
def tJ4_hashCode_3 : ev_T := (yJ4_hashCode_3, cJ4_hashCode_3, 6, (Option.some Jvm.ClassFile.FieldType.int), none)
def tJ4_hashCode_4 : ev_T := (yJ4_hashCode_4, cJ4_hashCode_4, 6, (Option.some Jvm.ClassFile.FieldType.int), none)
def tJ4_vectorizedHashCode : ev_T := (yJ4_vectorizedHashCode, cJ4_vectorizedHashCode, 5, (Option.some Jvm.ClassFile.FieldType.int), none)
def tJ3_hashCode : ev_T := (yJ3_hashCode, cJ3_hashCode, 1, (Option.some Jvm.ClassFile.FieldType.int), none)
def tJ2_hashCode : ev_T := (yJ2_hashCode, cJ2_hashCode, 2, (Option.some Jvm.ClassFile.FieldType.int), none)
def tX8_hashCode : ev_T := (yX8_hashCode, cX8_hashCode, 1, (Option.some Jvm.ClassFile.FieldType.int), none)
def tJ1_hash : ev_T := (yJ1_hash, cJ1_hash, 2, (Option.some Jvm.ClassFile.FieldType.int), none)
def tJ1_resize : ev_T := (yJ1_resize, cJ1_resize, 14, (Option.some (Jvm.ClassFile.FieldType.array (Jvm.ClassFile.FieldType.object "java/util/HashMap$Node"))), none)
def tJ6_init : ev_T := (yJ6_init, cJ6_init, 5, (Option.none : Option Jvm.ClassFile.FieldType), none)
def tJ1_newNode : ev_T := (yJ1_newNode, cJ1_newNode, 5, (Option.some (Jvm.ClassFile.FieldType.object "java/util/HashMap$Node")), none)
def tJ7_init : ev_T := (yJ7_init, cJ7_init, 5, (Option.none : Option Jvm.ClassFile.FieldType), none)
def tJ34_linkNodeAtEnd : ev_T := (yJ34_linkNodeAtEnd, cJ34_linkNodeAtEnd, 3, (Option.none : Option Jvm.ClassFile.FieldType), none)
def tJ34_newNode : ev_T := (yJ34_newNode, cJ34_newNode, 6, (Option.some (Jvm.ClassFile.FieldType.object "java/util/HashMap$Node")), none)
def tJ40_equals : ev_T := (yJ40_equals, cJ40_equals, 2, (Option.some Jvm.ClassFile.FieldType.boolean), none)
def tJ3_equals : ev_T := (yJ3_equals, cJ3_equals, 3, (Option.some Jvm.ClassFile.FieldType.boolean), none)
def tJ2_equals : ev_T := (yJ2_equals, cJ2_equals, 3, (Option.some Jvm.ClassFile.FieldType.boolean), none)
def tX8_equals : ev_T := (yX8_equals, cX8_equals, 3, (Option.some Jvm.ClassFile.FieldType.boolean), none)
def tJ1_treeifyBin : ev_T := (yJ1_treeifyBin, cJ1_treeifyBin, 9, (Option.none : Option Jvm.ClassFile.FieldType), none)
def tJ1_afterNodeAccess : ev_T := (yJ1_afterNodeAccess, cJ1_afterNodeAccess, 2, (Option.none : Option Jvm.ClassFile.FieldType), none)
def tJ34_afterNodeAccess : ev_T := (yJ34_afterNodeAccess, cJ34_afterNodeAccess, 7, (Option.none : Option Jvm.ClassFile.FieldType), none)
def tJ1_afterNodeInsertion : ev_T := (yJ1_afterNodeInsertion, cJ1_afterNodeInsertion, 2, (Option.none : Option Jvm.ClassFile.FieldType), none)
def tJ34_removeEldestEntry : ev_T := (yJ34_removeEldestEntry, cJ34_removeEldestEntry, 2, (Option.some Jvm.ClassFile.FieldType.boolean), none)
def tJ34_afterNodeInsertion : ev_T := (yJ34_afterNodeInsertion, cJ34_afterNodeInsertion, 4, (Option.none : Option Jvm.ClassFile.FieldType), none)
def tJ1_putVal : ev_T := (yJ1_putVal, cJ1_putVal, 13, (Option.some (Jvm.ClassFile.FieldType.object "java/lang/Object")), none)
def tJ1_put : ev_T := (yJ1_put, cJ1_put, 3, (Option.some (Jvm.ClassFile.FieldType.object "java/lang/Object")), none)
def tX1_puts : ev_T := (yX1_puts, cX1_puts, 3, (Option.none : Option Jvm.ClassFile.FieldType), none)
def tX1_all : ev_T := (yX1_all, cX1_all, 1, (Option.some (Jvm.ClassFile.FieldType.object "java/util/HashMap")), none)
def tJ18_init : ev_T := (yJ18_init, cJ18_init, 1, (Option.none : Option Jvm.ClassFile.FieldType), none)
def tJ19_init : ev_T := (yJ19_init, cJ19_init, 1, (Option.none : Option Jvm.ClassFile.FieldType), none)
def tJ20_init : ev_T := (yJ20_init, cJ20_init, 2, (Option.none : Option Jvm.ClassFile.FieldType), none)
def tJ21_init : ev_T := (yJ21_init, cJ21_init, 1, (Option.none : Option Jvm.ClassFile.FieldType), none)
def tX2_init : ev_T := (yX2_init, cX2_init, 2, (Option.none : Option Jvm.ClassFile.FieldType), none)
def tX0_init : ev_T := (yX0_init, cX0_init, 1, (Option.none : Option Jvm.ClassFile.FieldType), none)
def tX3_init : ev_T := (yX3_init, cX3_init, 2, (Option.none : Option Jvm.ClassFile.FieldType), none)
def tX0_in : ev_T := (yX0_in, cX0_in, 6, (Option.some Jvm.ClassFile.FieldType.boolean), none)
def tX0_isRow : ev_T := (yX0_isRow, cX0_isRow, 1, (Option.some Jvm.ClassFile.FieldType.boolean), none)
def tX4_made : ev_T := (yX4_made, cX4_made, 2, (Option.some (Jvm.ClassFile.FieldType.object "java/lang/Object")), none)
def tX4_init : ev_T := (yX4_init, cX4_init, 4, (Option.none : Option Jvm.ClassFile.FieldType), none)
def tX0_finds : ev_T := (yX0_finds, cX0_finds, 2, (Option.some Jvm.ClassFile.FieldType.int), none)
def tX0_row : ev_T := (yX0_row, cX0_row, 5, (Option.some Jvm.ClassFile.FieldType.int), (some [(28, 44, 45, 115)]))
def tX3_in : ev_T := (yX3_in, cX3_in, 3, (Option.some Jvm.ClassFile.FieldType.boolean), none)
def tX3_isRow : ev_T := (yX3_isRow, cX3_isRow, 1, (Option.some Jvm.ClassFile.FieldType.boolean), none)
def tX3_meets : ev_T := (yX3_meets, cX3_meets, 2, (Option.some Jvm.ClassFile.FieldType.int), none)
def tX3_row : ev_T := (yX3_row, cX3_row, 5, (Option.some Jvm.ClassFile.FieldType.int), none)
def tX0_lose : ev_T := (yX0_lose, cX0_lose, 3, (Option.some Jvm.ClassFile.FieldType.int), (some [(10, 28, 29, 124)]))
def tX3_lose : ev_T := (yX3_lose, cX3_lose, 3, (Option.some Jvm.ClassFile.FieldType.int), none)
def tX4_lays : ev_T := (yX4_lays, cX4_lays, 4, (Option.none : Option Jvm.ClassFile.FieldType), none)
def tX0_put : ev_T := (yX0_put, cX0_put, 6, (Option.some Jvm.ClassFile.FieldType.int), (some [(22, 36, 37, 124), (22, 36, 45, 130), (22, 36, 53, 132)]))
def tX3_put : ev_T := (yX3_put, cX3_put, 6, (Option.some Jvm.ClassFile.FieldType.int), none)
def tX0_no : ev_T := (yX0_no, cX0_no, 1, (Option.some Jvm.ClassFile.FieldType.long), none)
def tJ27_isNaN : ev_T := (yJ27_isNaN, cJ27_isNaN, 1, (Option.some Jvm.ClassFile.FieldType.boolean), none)
def tJ27_floatToIntBits : ev_T := (yJ27_floatToIntBits, cJ27_floatToIntBits, 1, (Option.some Jvm.ClassFile.FieldType.int), none)
def tJ28_isNaN : ev_T := (yJ28_isNaN, cJ28_isNaN, 2, (Option.some Jvm.ClassFile.FieldType.boolean), none)
def tJ28_doubleToLongBits : ev_T := (yJ28_doubleToLongBits, cJ28_doubleToLongBits, 2, (Option.some Jvm.ClassFile.FieldType.long), none)
def tX4_tells : ev_T := (yX4_tells, cX4_tells, 2, (Option.some Jvm.ClassFile.FieldType.long), none)
def tX0_get : ev_T := (yX0_get, cX0_get, 4, (Option.some Jvm.ClassFile.FieldType.long), (some [(13, 23, 24, 124), (13, 23, 34, 132)]))
def tX3_no : ev_T := (yX3_no, cX3_no, 1, (Option.some Jvm.ClassFile.FieldType.long), none)
def tX3_lacks : ev_T := (yX3_lacks, cX3_lacks, 3, (Option.some Jvm.ClassFile.FieldType.int), none)
def tX3_bitsOf : ev_T := (yX3_bitsOf, cX3_bitsOf, 11, (Option.some Jvm.ClassFile.FieldType.long), none)
def tX3_toldOf : ev_T := (yX3_toldOf, cX3_toldOf, 7, (Option.some Jvm.ClassFile.FieldType.long), none)
def tX3_get : ev_T := (yX3_get, cX3_get, 4, (Option.some Jvm.ClassFile.FieldType.long), none)
def tX0_copy : ev_T := (yX0_copy, cX0_copy, 7, (Option.some Jvm.ClassFile.FieldType.int), (some [(17, 44, 45, 124), (17, 44, 53, 151), (17, 44, 61, 153)]))
def tX3_copy : ev_T := (yX3_copy, cX3_copy, 7, (Option.some Jvm.ClassFile.FieldType.int), none)
def tJ21_sub : ev_T := (yJ21_sub, cJ21_sub, 3, (Option.some Jvm.ClassFile.FieldType.int), none)
def tJ21_size : ev_T := (yJ21_size, cJ21_size, 1, (Option.some Jvm.ClassFile.FieldType.int), none)
def tJ21_elementAt : ev_T := (yJ21_elementAt, cJ21_elementAt, 2, (Option.some (Jvm.ClassFile.FieldType.object "java/lang/Object")), none)
def tJ21_inc : ev_T := (yJ21_inc, cJ21_inc, 2, (Option.some Jvm.ClassFile.FieldType.int), none)
def tJ21_pollFirst : ev_T := (yJ21_pollFirst, cJ21_pollFirst, 4, (Option.some (Jvm.ClassFile.FieldType.object "java/lang/Object")), none)
def tX5_init : ev_T := (yX5_init, cX5_init, 2, (Option.none : Option Jvm.ClassFile.FieldType), none)
def tJ21_newCapacity : ev_T := (yJ21_newCapacity, cJ21_newCapacity, 5, (Option.some Jvm.ClassFile.FieldType.int), none)
def tJ8_min : ev_T := (yJ8_min, cJ8_min, 2, (Option.some Jvm.ClassFile.FieldType.int), none)
def tJ30_copyOf_2 : ev_T := (yJ30_copyOf_2, cJ30_copyOf_2, 4, (Option.some (Jvm.ClassFile.FieldType.array (Jvm.ClassFile.FieldType.object "java/lang/Object"))), none)
def tJ30_copyOf : ev_T := (yJ30_copyOf, cJ30_copyOf, 2, (Option.some (Jvm.ClassFile.FieldType.array (Jvm.ClassFile.FieldType.object "java/lang/Object"))), none)
def tJ21_grow : ev_T := (yJ21_grow, cJ21_grow, 9, (Option.none : Option Jvm.ClassFile.FieldType), none)
def tJ21_addLast : ev_T := (yJ21_addLast, cJ21_addLast, 3, (Option.none : Option Jvm.ClassFile.FieldType), none)
def tX0_tells : ev_T := (yX0_tells, cX0_tells, 2, (Option.none : Option Jvm.ClassFile.FieldType), none)
def tX0_turns : ev_T := (yX0_turns, cX0_turns, 3, (Option.some Jvm.ClassFile.FieldType.int), none)
def tX3_logs : ev_T := (yX3_logs, cX3_logs, 7, (Option.none : Option Jvm.ClassFile.FieldType), none)
def tX3_turns : ev_T := (yX3_turns, cX3_turns, 3, (Option.some Jvm.ClassFile.FieldType.int), none)
def tX0_type : ev_T := (yX0_type, cX0_type, 2, (Option.some Jvm.ClassFile.FieldType.int), none)
def tX3_type : ev_T := (yX3_type, cX3_type, 2, (Option.some Jvm.ClassFile.FieldType.int), none)
def tX0_wipe : ev_T := (yX0_wipe, cX0_wipe, 2, (Option.some Jvm.ClassFile.FieldType.int), none)
def tX3_wipe : ev_T := (yX3_wipe, cX3_wipe, 2, (Option.some Jvm.ClassFile.FieldType.int), none)
def tJ31_init : ev_T := (yJ31_init, cJ31_init, 2, (Option.none : Option Jvm.ClassFile.FieldType), none)
def tJ32_init : ev_T := (yJ32_init, cJ32_init, 2, (Option.none : Option Jvm.ClassFile.FieldType), none)
def tJ8_max : ev_T := (yJ8_max, cJ8_max, 2, (Option.some Jvm.ClassFile.FieldType.int), none)
def tJ4_hugeLength : ev_T := (yJ4_hugeLength, cJ4_hugeLength, 3, (Option.some Jvm.ClassFile.FieldType.int), none)
def tJ4_newLength : ev_T := (yJ4_newLength, cJ4_newLength, 4, (Option.some Jvm.ClassFile.FieldType.int), none)
def tJ31_newCapacity : ev_T := (yJ31_newCapacity, cJ31_newCapacity, 6, (Option.some Jvm.ClassFile.FieldType.int), none)
def tJ30_copyOf_3 : ev_T := (yJ30_copyOf_3, cJ30_copyOf_3, 3, (Option.some (Jvm.ClassFile.FieldType.array Jvm.ClassFile.FieldType.byte)), none)
def tJ31_ensureCapacityInternal : ev_T := (yJ31_ensureCapacityInternal, cJ31_ensureCapacityInternal, 3, (Option.none : Option Jvm.ClassFile.FieldType), none)
def tJ31_isLatin1 : ev_T := (yJ31_isLatin1, cJ31_isLatin1, 1, (Option.some Jvm.ClassFile.FieldType.boolean), none)
def tJ3_canEncode : ev_T := (yJ3_canEncode, cJ3_canEncode, 1, (Option.some Jvm.ClassFile.FieldType.boolean), none)
def tJ31_append : ev_T := (yJ31_append, cJ31_append, 2, (Option.some (Jvm.ClassFile.FieldType.object "java/lang/AbstractStringBuilder")), none)
def tJ32_append : ev_T := (yJ32_append, cJ32_append, 2, (Option.some (Jvm.ClassFile.FieldType.object "java/lang/StringBuilder")), none)
def tJ31_getValue : ev_T := (yJ31_getValue, cJ31_getValue, 1, (Option.some (Jvm.ClassFile.FieldType.array Jvm.ClassFile.FieldType.byte)), none)
def tJ31_length : ev_T := (yJ31_length, cJ31_length, 1, (Option.some Jvm.ClassFile.FieldType.int), none)
def tJ32_length : ev_T := (yJ32_length, cJ32_length, 1, (Option.some Jvm.ClassFile.FieldType.int), none)
def tJ30_checkLength : ev_T := (yJ30_checkLength, cJ30_checkLength, 2, (Option.none : Option Jvm.ClassFile.FieldType), none)
def tJ30_copyOfRangeByte : ev_T := (yJ30_copyOfRangeByte, cJ30_copyOfRangeByte, 5, (Option.some (Jvm.ClassFile.FieldType.array Jvm.ClassFile.FieldType.byte)), none)
def tJ30_copyOfRange : ev_T := (yJ30_copyOfRange, cJ30_copyOfRange, 3, (Option.some (Jvm.ClassFile.FieldType.array Jvm.ClassFile.FieldType.byte)), none)
def tJ2_init_2 : ev_T := (yJ2_init_2, cJ2_init_2, 5, (Option.none : Option Jvm.ClassFile.FieldType), none)
def tJ2_init : ev_T := (yJ2_init, cJ2_init, 2, (Option.none : Option Jvm.ClassFile.FieldType), none)
def tJ32_toString : ev_T := (yJ32_toString, cJ32_toString, 1, (Option.some (Jvm.ClassFile.FieldType.object "java/lang/String")), none)
def tJ1_getNode : ev_T := (yJ1_getNode, cJ1_getNode, 8, (Option.some (Jvm.ClassFile.FieldType.object "java/util/HashMap$Node")), none)
def tJ1_get : ev_T := (yJ1_get, cJ1_get, 3, (Option.some (Jvm.ClassFile.FieldType.object "java/lang/Object")), none)
def tJ34_get : ev_T := (yJ34_get, cJ34_get, 3, (Option.some (Jvm.ClassFile.FieldType.object "java/lang/Object")), none)
def tX0_named : ev_T := (yX0_named, cX0_named, 3, (Option.some (Jvm.ClassFile.FieldType.object "StrideTurns$Deed")), none)
def tJ20_size : ev_T := (yJ20_size, cJ20_size, 1, (Option.some Jvm.ClassFile.FieldType.int), none)
def tX7_init : ev_T := (yX7_init, cX7_init, 2, (Option.none : Option Jvm.ClassFile.FieldType), none)
def tX6_init : ev_T := (yX6_init, cX6_init, 4, (Option.none : Option Jvm.ClassFile.FieldType), none)
def tJ20_grow_2 : ev_T := (yJ20_grow_2, cJ20_grow_2, 4, (Option.some (Jvm.ClassFile.FieldType.array (Jvm.ClassFile.FieldType.object "java/lang/Object"))), none)
def tJ20_grow : ev_T := (yJ20_grow, cJ20_grow, 1, (Option.some (Jvm.ClassFile.FieldType.array (Jvm.ClassFile.FieldType.object "java/lang/Object"))), none)
def tJ20_add_2 : ev_T := (yJ20_add_2, cJ20_add_2, 4, (Option.none : Option Jvm.ClassFile.FieldType), none)
def tJ20_add : ev_T := (yJ20_add, cJ20_add, 2, (Option.some Jvm.ClassFile.FieldType.boolean), none)
def tX0_statement : ev_T := (yX0_statement, cX0_statement, 3, (Option.some Jvm.ClassFile.FieldType.int), none)
def tX3_isTyped : ev_T := (yX3_isTyped, cX3_isTyped, 8, (Option.some Jvm.ClassFile.FieldType.boolean), none)
def tX3_isName : ev_T := (yX3_isName, cX3_isName, 2, (Option.some Jvm.ClassFile.FieldType.boolean), none)
def tX3_statement : ev_T := (yX3_statement, cX3_statement, 4, (Option.some Jvm.ClassFile.FieldType.int), none)
def tX0_isStatement : ev_T := (yX0_isStatement, cX0_isStatement, 2, (Option.some Jvm.ClassFile.FieldType.boolean), none)
def tX0_isReference : ev_T := (yX0_isReference, cX0_isReference, 3, (Option.some Jvm.ClassFile.FieldType.boolean), none)
def tJ12_checkIndex : ev_T := (yJ12_checkIndex, cJ12_checkIndex, 3, (Option.some Jvm.ClassFile.FieldType.int), none)
def tJ33_checkIndex : ev_T := (yJ33_checkIndex, cJ33_checkIndex, 2, (Option.some Jvm.ClassFile.FieldType.int), none)
def tJ20_elementData : ev_T := (yJ20_elementData, cJ20_elementData, 2, (Option.some (Jvm.ClassFile.FieldType.object "java/lang/Object")), none)
def tJ20_get : ev_T := (yJ20_get, cJ20_get, 2, (Option.some (Jvm.ClassFile.FieldType.object "java/lang/Object")), none)
def tX6_at : ev_T := (yX6_at, cX6_at, 2, (Option.some (Jvm.ClassFile.FieldType.object "StrideTurns$Reference")), none)
def tX0_refer : ev_T := (yX0_refer, cX0_refer, 6, (Option.some Jvm.ClassFile.FieldType.int), none)
def tX3_isStatement : ev_T := (yX3_isStatement, cX3_isStatement, 2, (Option.some Jvm.ClassFile.FieldType.boolean), none)
def tX3_refer : ev_T := (yX3_refer, cX3_refer, 5, (Option.some Jvm.ClassFile.FieldType.int), none)
def tX7_moves : ev_T := (yX7_moves, cX7_moves, 4, (Option.none : Option Jvm.ClassFile.FieldType), none)
def tX0_place : ev_T := (yX0_place, cX0_place, 10, (Option.some Jvm.ClassFile.FieldType.int), none)
def tX3_place : ev_T := (yX3_place, cX3_place, 7, (Option.some Jvm.ClassFile.FieldType.int), none)
def tX6_waits : ev_T := (yX6_waits, cX6_waits, 3, (Option.none : Option Jvm.ClassFile.FieldType), none)
def tX0_guard : ev_T := (yX0_guard, cX0_guard, 7, (Option.some Jvm.ClassFile.FieldType.int), none)
def tX3_guard : ev_T := (yX3_guard, cX3_guard, 4, (Option.some Jvm.ClassFile.FieldType.int), none)
def tX0_mask : ev_T := (yX0_mask, cX0_mask, 5, (Option.some Jvm.ClassFile.FieldType.int), none)
def tX3_mask : ev_T := (yX3_mask, cX3_mask, 4, (Option.some Jvm.ClassFile.FieldType.int), none)
def tJ21_dec : ev_T := (yJ21_dec, cJ21_dec, 2, (Option.some Jvm.ClassFile.FieldType.int), none)
def tJ21_pollLast : ev_T := (yJ21_pollLast, cJ21_pollLast, 4, (Option.some (Jvm.ClassFile.FieldType.object "java/lang/Object")), none)
def tX0_lambda_turns_0 : ev_T := (yX0_lambda_turns_0, cX0_lambda_turns_0, 2, (Option.some Jvm.ClassFile.FieldType.int), none)
def tJ20_fastRemove : ev_T := (yJ20_fastRemove, cJ20_fastRemove, 4, (Option.none : Option Jvm.ClassFile.FieldType), none)
def tJ20_remove : ev_T := (yJ20_remove, cJ20_remove, 4, (Option.some (Jvm.ClassFile.FieldType.object "java/lang/Object")), none)
def tX0_lambda_statement_1 : ev_T := (yX0_lambda_statement_1, cX0_lambda_statement_1, 1, (Option.some Jvm.ClassFile.FieldType.int), none)
def tX0_lambda_refer_2 : ev_T := (yX0_lambda_refer_2, cX0_lambda_refer_2, 2, (Option.some Jvm.ClassFile.FieldType.int), none)
def tX0_lambda_place_3 : ev_T := (yX0_lambda_place_3, cX0_lambda_place_3, 4, (Option.some Jvm.ClassFile.FieldType.int), none)
def tX0_lambda_guard_4 : ev_T := (yX0_lambda_guard_4, cX0_lambda_guard_4, 3, (Option.some Jvm.ClassFile.FieldType.int), none)
def tX0_lambda_mask_5 : ev_T := (yX0_lambda_mask_5, cX0_lambda_mask_5, 2, (Option.some Jvm.ClassFile.FieldType.int), none)
def tX0_undo : ev_T := (yX0_undo, cX0_undo, 2, (Option.some Jvm.ClassFile.FieldType.int), none)
def tX3_undo : ev_T := (yX3_undo, cX3_undo, 5, (Option.some Jvm.ClassFile.FieldType.int), none)
def tX4_isNumbers : ev_T := (yX4_isNumbers, cX4_isNumbers, 1, (Option.some Jvm.ClassFile.FieldType.boolean), none)
def tX0_numbers : ev_T := (yX0_numbers, cX0_numbers, 3, (Option.some (Jvm.ClassFile.FieldType.object "StrideTurns$Row")), none)
def tX7_isAlike : ev_T := (yX7_isAlike, cX7_isAlike, 2, (Option.some Jvm.ClassFile.FieldType.boolean), none)
def tX6_gathers : ev_T := (yX6_gathers, cX6_gathers, 7, (Option.some Jvm.ClassFile.FieldType.int), none)
def tX6_family : ev_T := (yX6_family, cX6_family, 2, (Option.some Jvm.ClassFile.FieldType.int), none)
def tX6_lambda_new_0 : ev_T := (yX6_lambda_new_0, cX6_lambda_new_0, 1, (Option.some Jvm.ClassFile.FieldType.boolean), none)
def tX6_lambda_waits_1 : ev_T := (yX6_lambda_waits_1, cX6_lambda_waits_1, 3, (Option.some Jvm.ClassFile.FieldType.boolean), none)
def tX4_has : ev_T := (yX4_has, cX4_has, 2, (Option.some Jvm.ClassFile.FieldType.boolean), none)
def tX4_isTrue : ev_T := (yX4_isTrue, cX4_isTrue, 2, (Option.some Jvm.ClassFile.FieldType.boolean), none)
def tX6_isDone : ev_T := (yX6_isDone, cX6_isDone, 2, (Option.some Jvm.ClassFile.FieldType.boolean), none)
def tX6_doneIn : ev_T := (yX6_doneIn, cX6_doneIn, 3, (Option.some Jvm.ClassFile.FieldType.int), none)
def tX6_tells : ev_T := (yX6_tells, cX6_tells, 2, (Option.some Jvm.ClassFile.FieldType.int), none)
def tX0_info : ev_T := (yX0_info, cX0_info, 3, (Option.some Jvm.ClassFile.FieldType.int), none)
def tX3_formAs : ev_T := (yX3_formAs, cX3_formAs, 4, (Option.some Jvm.ClassFile.FieldType.int), none)
def tX3_isNumbers : ev_T := (yX3_isNumbers, cX3_isNumbers, 1, (Option.some Jvm.ClassFile.FieldType.boolean), none)
def tX3_familyAs : ev_T := (yX3_familyAs, cX3_familyAs, 11, (Option.some Jvm.ClassFile.FieldType.int), none)
def tX3_isDone : ev_T := (yX3_isDone, cX3_isDone, 5, (Option.some Jvm.ClassFile.FieldType.boolean), none)
def tX3_doneMany : ev_T := (yX3_doneMany, cX3_doneMany, 4, (Option.some Jvm.ClassFile.FieldType.int), none)
def tX3_infoOf : ev_T := (yX3_infoOf, cX3_infoOf, 3, (Option.some Jvm.ClassFile.FieldType.int), none)
def tX3_info : ev_T := (yX3_info, cX3_info, 3, (Option.some Jvm.ClassFile.FieldType.int), none)
def tX7_tells : ev_T := (yX7_tells, cX7_tells, 2, (Option.some Jvm.ClassFile.FieldType.int), none)
def tX0_reference : ev_T := (yX0_reference, cX0_reference, 4, (Option.some Jvm.ClassFile.FieldType.int), none)
def tX3_referenceOf : ev_T := (yX3_referenceOf, cX3_referenceOf, 3, (Option.some Jvm.ClassFile.FieldType.int), none)
def tX3_reference : ev_T := (yX3_reference, cX3_reference, 4, (Option.some Jvm.ClassFile.FieldType.int), none)
def tX0_referenceAt : ev_T := (yX0_referenceAt, cX0_referenceAt, 2, (Option.some (Jvm.ClassFile.FieldType.object "StrideTurns$Reference")), none)
def tX0_isTo : ev_T := (yX0_isTo, cX0_isTo, 2, (Option.some Jvm.ClassFile.FieldType.boolean), none)
def tX0_isTurn : ev_T := (yX0_isTurn, cX0_isTurn, 2, (Option.some Jvm.ClassFile.FieldType.boolean), none)
def tX7_lambda_new_0 : ev_T := (yX7_lambda_new_0, cX7_lambda_new_0, 2, (Option.some Jvm.ClassFile.FieldType.int), none)
def tX7_lambda_moves_1 : ev_T := (yX7_lambda_moves_1, cX7_lambda_moves_1, 5, (Option.some Jvm.ClassFile.FieldType.int), none)
def tJ8_abs : ev_T := (yJ8_abs, cJ8_abs, 1, (Option.some Jvm.ClassFile.FieldType.int), none)
def tX8_init : ev_T := (yX8_init, cX8_init, 4, (Option.none : Option Jvm.ClassFile.FieldType), none)
def tX8_of : ev_T := (yX8_of, cX8_of, 5, (Option.some (Jvm.ClassFile.FieldType.object "StrideTurns$Section")), none)
def tX0_sectionAt : ev_T := (yX0_sectionAt, cX0_sectionAt, 3, (Option.some (Jvm.ClassFile.FieldType.object "StrideTurns$Section")), none)
def tX8_tells : ev_T := (yX8_tells, cX8_tells, 2, (Option.some Jvm.ClassFile.FieldType.int), none)
def tX0_section : ev_T := (yX0_section, cX0_section, 4, (Option.some Jvm.ClassFile.FieldType.int), none)
def tX3_isSection : ev_T := (yX3_isSection, cX3_isSection, 3, (Option.some Jvm.ClassFile.FieldType.boolean), none)
def tX3_placeOf : ev_T := (yX3_placeOf, cX3_placeOf, 4, (Option.some Jvm.ClassFile.FieldType.int), none)
def tX3_firstOf : ev_T := (yX3_firstOf, cX3_firstOf, 5, (Option.some Jvm.ClassFile.FieldType.int), none)
def tX3_manyOf : ev_T := (yX3_manyOf, cX3_manyOf, 2, (Option.some Jvm.ClassFile.FieldType.int), none)
def tX3_strideOf : ev_T := (yX3_strideOf, cX3_strideOf, 2, (Option.some Jvm.ClassFile.FieldType.int), none)
def tX3_sectionOf : ev_T := (yX3_sectionOf, cX3_sectionOf, 4, (Option.some Jvm.ClassFile.FieldType.int), none)
def tX3_section : ev_T := (yX3_section, cX3_section, 4, (Option.some Jvm.ClassFile.FieldType.int), none)
def tX0_divisor : ev_T := (yX0_divisor, cX0_divisor, 5, (Option.some Jvm.ClassFile.FieldType.int), none)
def tJ8_floorMod : ev_T := (yJ8_floorMod, cJ8_floorMod, 3, (Option.some Jvm.ClassFile.FieldType.int), none)
def tX8_last : ev_T := (yX8_last, cX8_last, 1, (Option.some Jvm.ClassFile.FieldType.int), none)
def tX8_meet : ev_T := (yX8_meet, cX8_meet, 9, (Option.some (Jvm.ClassFile.FieldType.object "StrideTurns$Section")), none)
def tX0_meet : ev_T := (yX0_meet, cX0_meet, 8, (Option.some Jvm.ClassFile.FieldType.int), none)
def tX3_hasPlace : ev_T := (yX3_hasPlace, cX3_hasPlace, 6, (Option.some Jvm.ClassFile.FieldType.boolean), none)
def tX3_meetOf : ev_T := (yX3_meetOf, cX3_meetOf, 11, (Option.some Jvm.ClassFile.FieldType.int), none)
def tX3_meet : ev_T := (yX3_meet, cX3_meet, 6, (Option.some Jvm.ClassFile.FieldType.int), none)
def tJ34_init : ev_T := (yJ34_init, cJ34_init, 1, (Option.none : Option Jvm.ClassFile.FieldType), none)
def tX6_looks : ev_T := (yX6_looks, cX6_looks, 2, (Option.some Jvm.ClassFile.FieldType.boolean), none)
def tX9_init : ev_T := (yX9_init, cX9_init, 2, (Option.none : Option Jvm.ClassFile.FieldType), none)
def tX0_kindsOf : ev_T := (yX0_kindsOf, cX0_kindsOf, 12, (Option.some (Jvm.ClassFile.FieldType.object "java/util/LinkedHashMap")), none)
def tJ1_size : ev_T := (yJ1_size, cJ1_size, 1, (Option.some Jvm.ClassFile.FieldType.int), none)
def tX0_kinds : ev_T := (yX0_kinds, cX0_kinds, 3, (Option.some Jvm.ClassFile.FieldType.int), none)
def tX3_isLooked : ev_T := (yX3_isLooked, cX3_isLooked, 2, (Option.some Jvm.ClassFile.FieldType.boolean), none)
def tX3_addsKind : ev_T := (yX3_addsKind, cX3_addsKind, 6, (Option.none : Option Jvm.ClassFile.FieldType), none)
def tX3_addsIf : ev_T := (yX3_addsIf, cX3_addsIf, 4, (Option.none : Option Jvm.ClassFile.FieldType), none)
def tX3_findsKinds : ev_T := (yX3_findsKinds, cX3_findsKinds, 4, (Option.some Jvm.ClassFile.FieldType.int), none)
def tX3_kinds : ev_T := (yX3_kinds, cX3_kinds, 3, (Option.some Jvm.ClassFile.FieldType.int), none)
def tJ35_init : ev_T := (yJ35_init, cJ35_init, 3, (Option.none : Option Jvm.ClassFile.FieldType), none)
def tJ34_sequencedValues : ev_T := (yJ34_sequencedValues, cJ34_sequencedValues, 3, (Option.some (Jvm.ClassFile.FieldType.object "java/util/SequencedCollection")), none)
def tJ34_values : ev_T := (yJ34_values, cJ34_values, 1, (Option.some (Jvm.ClassFile.FieldType.object "java/util/Collection")), none)
def tJ38_init : ev_T := (yJ38_init, cJ38_init, 3, (Option.none : Option Jvm.ClassFile.FieldType), none)
def tJ39_init : ev_T := (yJ39_init, cJ39_init, 3, (Option.none : Option Jvm.ClassFile.FieldType), none)
def tJ35_iterator : ev_T := (yJ35_iterator, cJ35_iterator, 1, (Option.some (Jvm.ClassFile.FieldType.object "java/util/Iterator")), none)
def tJ38_hasNext : ev_T := (yJ38_hasNext, cJ38_hasNext, 1, (Option.some Jvm.ClassFile.FieldType.boolean), none)
def tJ38_nextNode : ev_T := (yJ38_nextNode, cJ38_nextNode, 2, (Option.some (Jvm.ClassFile.FieldType.object "java/util/LinkedHashMap$Entry")), none)
def tJ39_next : ev_T := (yJ39_next, cJ39_next, 1, (Option.some (Jvm.ClassFile.FieldType.object "java/lang/Object")), none)
def tX0_nth : ev_T := (yX0_nth, cX0_nth, 5, (Option.some (Jvm.ClassFile.FieldType.object "StrideTurns$Tally")), none)
def tX0_kind : ev_T := (yX0_kind, cX0_kind, 6, (Option.some Jvm.ClassFile.FieldType.int), none)
def tX3_kind : ev_T := (yX3_kind, cX3_kind, 5, (Option.some Jvm.ClassFile.FieldType.int), none)
def tX0_isSet : ev_T := (yX0_isSet, cX0_isSet, 4, (Option.some Jvm.ClassFile.FieldType.boolean), none)
def tX0_fits : ev_T := (yX0_fits, cX0_fits, 7, (Option.some Jvm.ClassFile.FieldType.int), none)
def tX0_setAt : ev_T := (yX0_setAt, cX0_setAt, 3, (Option.some Jvm.ClassFile.FieldType.int), none)
def tX0_cellsOf : ev_T := (yX0_cellsOf, cX0_cellsOf, 7, (Option.some Jvm.ClassFile.FieldType.long), none)
def tX1_isFirm : ev_T := (yX1_isFirm, cX1_isFirm, 1, (Option.some Jvm.ClassFile.FieldType.boolean), none)
def tX0_isOwn : ev_T := (yX0_isOwn, cX0_isOwn, 6, (Option.some Jvm.ClassFile.FieldType.boolean), none)
def tX0_reads : ev_T := (yX0_reads, cX0_reads, 10, (Option.none : Option Jvm.ClassFile.FieldType), none)
def tX1_isDoubtful : ev_T := (yX1_isDoubtful, cX1_isDoubtful, 1, (Option.some Jvm.ClassFile.FieldType.boolean), none)
def tX0_goes : ev_T := (yX0_goes, cX0_goes, 12, (Option.none : Option Jvm.ClassFile.FieldType), none)
def tX0_knows : ev_T := (yX0_knows, cX0_knows, 2, (Option.none : Option Jvm.ClassFile.FieldType), none)
def tX0_bitsOf : ev_T := (yX0_bitsOf, cX0_bitsOf, 7, (Option.some Jvm.ClassFile.FieldType.long), none)
def tJ10_bitCount : ev_T := (yJ10_bitCount, cJ10_bitCount, 2, (Option.some Jvm.ClassFile.FieldType.int), none)
def tX0_many : ev_T := (yX0_many, cX0_many, 4, (Option.some Jvm.ClassFile.FieldType.int), none)
def tX3_isSet : ev_T := (yX3_isSet, cX3_isSet, 4, (Option.some Jvm.ClassFile.FieldType.boolean), none)
def tX3_bitAt : ev_T := (yX3_bitAt, cX3_bitAt, 6, (Option.some Jvm.ClassFile.FieldType.int), none)
def tX3_reads : ev_T := (yX3_reads, cX3_reads, 6, (Option.some Jvm.ClassFile.FieldType.boolean), none)
def tX3_knows : ev_T := (yX3_knows, cX3_knows, 7, (Option.some Jvm.ClassFile.FieldType.boolean), none)
def tX3_findsTurn : ev_T := (yX3_findsTurn, cX3_findsTurn, 5, (Option.none : Option Jvm.ClassFile.FieldType), none)
def tX3_findsSets : ev_T := (yX3_findsSets, cX3_findsSets, 2, (Option.none : Option Jvm.ClassFile.FieldType), none)
def tX3_bitsOfTurn : ev_T := (yX3_bitsOfTurn, cX3_bitsOfTurn, 4, (Option.some Jvm.ClassFile.FieldType.int), none)
def tX3_bitsOfSet : ev_T := (yX3_bitsOfSet, cX3_bitsOfSet, 6, (Option.some Jvm.ClassFile.FieldType.int), none)
def tX3_size : ev_T := (yX3_size, cX3_size, 3, (Option.some Jvm.ClassFile.FieldType.int), none)
def tX3_many : ev_T := (yX3_many, cX3_many, 4, (Option.some Jvm.ClassFile.FieldType.int), none)
def tJ11_numberOfTrailingZeros : ev_T := (yJ11_numberOfTrailingZeros, cJ11_numberOfTrailingZeros, 2, (Option.some Jvm.ClassFile.FieldType.int), none)
def tJ10_numberOfTrailingZeros : ev_T := (yJ10_numberOfTrailingZeros, cJ10_numberOfTrailingZeros, 3, (Option.some Jvm.ClassFile.FieldType.int), none)
def tX0_piece : ev_T := (yX0_piece, cX0_piece, 7, (Option.some (Jvm.ClassFile.FieldType.object "StrideTurns$Section")), none)
def tX0_without : ev_T := (yX0_without, cX0_without, 6, (Option.some Jvm.ClassFile.FieldType.long), none)
def tX0_piecesOf : ev_T := (yX0_piecesOf, cX0_piecesOf, 5, (Option.some Jvm.ClassFile.FieldType.int), none)
def tX0_pieces : ev_T := (yX0_pieces, cX0_pieces, 4, (Option.some Jvm.ClassFile.FieldType.int), none)
def tX3_nextBit : ev_T := (yX3_nextBit, cX3_nextBit, 4, (Option.some Jvm.ClassFile.FieldType.int), none)
def tX3_without : ev_T := (yX3_without, cX3_without, 5, (Option.some Jvm.ClassFile.FieldType.int), none)
def tX3_piecesOf : ev_T := (yX3_piecesOf, cX3_piecesOf, 4, (Option.some Jvm.ClassFile.FieldType.int), none)
def tX3_pieces : ev_T := (yX3_pieces, cX3_pieces, 4, (Option.some Jvm.ClassFile.FieldType.int), none)
def tX0_piece_2 : ev_T := (yX0_piece_2, cX0_piece_2, 9, (Option.some Jvm.ClassFile.FieldType.int), none)
def tX3_pieceOf : ev_T := (yX3_pieceOf, cX3_pieceOf, 6, (Option.some Jvm.ClassFile.FieldType.int), none)
def tX3_piece : ev_T := (yX3_piece, cX3_piece, 6, (Option.some Jvm.ClassFile.FieldType.int), none)
def tX0_isShared : ev_T := (yX0_isShared, cX0_isShared, 6, (Option.some Jvm.ClassFile.FieldType.boolean), none)
def tX6_isOf : ev_T := (yX6_isOf, cX6_isOf, 3, (Option.some Jvm.ClassFile.FieldType.boolean), none)
def tX0_isGathered : ev_T := (yX0_isGathered, cX0_isGathered, 7, (Option.some Jvm.ClassFile.FieldType.boolean), none)
def tX0_waits : ev_T := (yX0_waits, cX0_waits, 5, (Option.some Jvm.ClassFile.FieldType.int), none)
def tX0_verdictBy : ev_T := (yX0_verdictBy, cX0_verdictBy, 3, (Option.some Jvm.ClassFile.FieldType.int), none)
def tX0_verdictOf : ev_T := (yX0_verdictOf, cX0_verdictOf, 3, (Option.some Jvm.ClassFile.FieldType.int), none)
def tX0_verdict : ev_T := (yX0_verdict, cX0_verdict, 2, (Option.some Jvm.ClassFile.FieldType.int), none)
def tX3_isWritten : ev_T := (yX3_isWritten, cX3_isWritten, 4, (Option.some Jvm.ClassFile.FieldType.boolean), none)
def tX3_isShared : ev_T := (yX3_isShared, cX3_isShared, 6, (Option.some Jvm.ClassFile.FieldType.boolean), none)
def tX3_isAbout : ev_T := (yX3_isAbout, cX3_isAbout, 3, (Option.some Jvm.ClassFile.FieldType.boolean), none)
def tX3_isGathered : ev_T := (yX3_isGathered, cX3_isGathered, 8, (Option.some Jvm.ClassFile.FieldType.boolean), none)
def tX3_isCopied : ev_T := (yX3_isCopied, cX3_isCopied, 5, (Option.some Jvm.ClassFile.FieldType.boolean), none)
def tX3_verdictAs : ev_T := (yX3_verdictAs, cX3_verdictAs, 4, (Option.some Jvm.ClassFile.FieldType.int), none)
def tX3_verdictOf : ev_T := (yX3_verdictOf, cX3_verdictOf, 2, (Option.some Jvm.ClassFile.FieldType.int), none)
def tX3_verdict : ev_T := (yX3_verdict, cX3_verdict, 2, (Option.some Jvm.ClassFile.FieldType.int), none)
def tX0_would : ev_T := (yX0_would, cX0_would, 3, (Option.some Jvm.ClassFile.FieldType.int), none)
def tX3_would : ev_T := (yX3_would, cX3_would, 3, (Option.some Jvm.ClassFile.FieldType.int), none)
def tX0_lastOf : ev_T := (yX0_lastOf, cX0_lastOf, 6, (Option.some Jvm.ClassFile.FieldType.int), none)
def tX0_witnessBy : ev_T := (yX0_witnessBy, cX0_witnessBy, 7, (Option.some Jvm.ClassFile.FieldType.int), none)
def tX0_witness : ev_T := (yX0_witness, cX0_witness, 3, (Option.some Jvm.ClassFile.FieldType.int), none)
def tX3_witnessOf : ev_T := (yX3_witnessOf, cX3_witnessOf, 8, (Option.some Jvm.ClassFile.FieldType.int), none)
def tX3_witness : ev_T := (yX3_witness, cX3_witness, 3, (Option.some Jvm.ClassFile.FieldType.int), none)
def tX0_last : ev_T := (yX0_last, cX0_last, 4, (Option.some Jvm.ClassFile.FieldType.int), none)
def tX3_lastOf : ev_T := (yX3_lastOf, cX3_lastOf, 6, (Option.some Jvm.ClassFile.FieldType.int), none)
def tX3_last : ev_T := (yX3_last, cX3_last, 4, (Option.some Jvm.ClassFile.FieldType.int), none)
def tX2_passes : ev_T := (yX2_passes, cX2_passes, 1, (Option.none : Option Jvm.ClassFile.FieldType), none)
def tX2_begins : ev_T := (yX2_begins, cX2_begins, 3, (Option.none : Option Jvm.ClassFile.FieldType), none)
def tX0_begins : ev_T := (yX0_begins, cX0_begins, 6, (Option.none : Option Jvm.ClassFile.FieldType), none)
def tX2_isLeft : ev_T := (yX2_isLeft, cX2_isLeft, 1, (Option.some Jvm.ClassFile.FieldType.boolean), none)
def tX2_wrong : ev_T := (yX2_wrong, cX2_wrong, 3, (Option.some Jvm.ClassFile.FieldType.int), none)
def tX2_against : ev_T := (yX2_against, cX2_against, 3, (Option.some Jvm.ClassFile.FieldType.int), none)
def tX4_at : ev_T := (yX4_at, cX4_at, 2, (Option.some Jvm.ClassFile.FieldType.double), none)
def tX2_value : ev_T := (yX2_value, cX2_value, 4, (Option.some Jvm.ClassFile.FieldType.double), none)
def tX1_isWhole : ev_T := (yX1_isWhole, cX1_isWhole, 1, (Option.some Jvm.ClassFile.FieldType.boolean), none)
def tX0_formOf : ev_T := (yX0_formOf, cX0_formOf, 2, (Option.some Jvm.ClassFile.FieldType.int), none)
def tX0_widthOf : ev_T := (yX0_widthOf, cX0_widthOf, 3, (Option.some Jvm.ClassFile.FieldType.int), none)
def tX1_lambda_all_0 : ev_T := (yX1_lambda_all_0, cX1_lambda_all_0, 2, (Option.some Jvm.ClassFile.FieldType.int), none)
def tX1_lambda_all_3 : ev_T := (yX1_lambda_all_3, cX1_lambda_all_3, 2, (Option.some Jvm.ClassFile.FieldType.int), none)
def tX1_lambda_all_6 : ev_T := (yX1_lambda_all_6, cX1_lambda_all_6, 2, (Option.some Jvm.ClassFile.FieldType.int), none)
def tX1_rest : ev_T := (yX1_rest, cX1_rest, 2, (Option.some Jvm.ClassFile.FieldType.int), none)
def tX1_lambda_all_9 : ev_T := (yX1_lambda_all_9, cX1_lambda_all_9, 2, (Option.some Jvm.ClassFile.FieldType.int), none)
def tX1_lambda_all_12 : ev_T := (yX1_lambda_all_12, cX1_lambda_all_12, 2, (Option.some Jvm.ClassFile.FieldType.int), none)
def tX1_lambda_all_15 : ev_T := (yX1_lambda_all_15, cX1_lambda_all_15, 2, (Option.some Jvm.ClassFile.FieldType.int), none)
def tX1_lambda_all_16 : ev_T := (yX1_lambda_all_16, cX1_lambda_all_16, 2, (Option.some Jvm.ClassFile.FieldType.int), none)
def tX1_lambda_all_17 : ev_T := (yX1_lambda_all_17, cX1_lambda_all_17, 2, (Option.some Jvm.ClassFile.FieldType.int), none)
def tX1_lambda_all_18 : ev_T := (yX1_lambda_all_18, cX1_lambda_all_18, 2, (Option.some Jvm.ClassFile.FieldType.int), none)
def tX1_lambda_all_21 : ev_T := (yX1_lambda_all_21, cX1_lambda_all_21, 2, (Option.some Jvm.ClassFile.FieldType.int), none)
def tJ8_addExact : ev_T := (yJ8_addExact, cJ8_addExact, 3, (Option.some Jvm.ClassFile.FieldType.int), none)
def tX1_sum : ev_T := (yX1_sum, cX1_sum, 2, (Option.some Jvm.ClassFile.FieldType.int), none)
def tJ8_multiplyExact : ev_T := (yJ8_multiplyExact, cJ8_multiplyExact, 4, (Option.some Jvm.ClassFile.FieldType.int), none)
def tX1_product : ev_T := (yX1_product, cX1_product, 2, (Option.some Jvm.ClassFile.FieldType.int), none)
def tX1_lambda_all_1 : ev_T := (yX1_lambda_all_1, cX1_lambda_all_1, 2, (Option.some Jvm.ClassFile.FieldType.float), none)
def tX1_lambda_all_4 : ev_T := (yX1_lambda_all_4, cX1_lambda_all_4, 2, (Option.some Jvm.ClassFile.FieldType.float), none)
def tX1_lambda_all_7 : ev_T := (yX1_lambda_all_7, cX1_lambda_all_7, 2, (Option.some Jvm.ClassFile.FieldType.float), none)
def tX1_restOf : ev_T := (yX1_restOf, cX1_restOf, 2, (Option.some Jvm.ClassFile.FieldType.float), none)
def tX1_lambda_all_10 : ev_T := (yX1_lambda_all_10, cX1_lambda_all_10, 2, (Option.some Jvm.ClassFile.FieldType.float), none)
def tX1_lambda_all_13 : ev_T := (yX1_lambda_all_13, cX1_lambda_all_13, 2, (Option.some Jvm.ClassFile.FieldType.float), none)
def tX1_lambda_all_19 : ev_T := (yX1_lambda_all_19, cX1_lambda_all_19, 2, (Option.some Jvm.ClassFile.FieldType.float), none)
def tX1_lambda_all_22 : ev_T := (yX1_lambda_all_22, cX1_lambda_all_22, 2, (Option.some Jvm.ClassFile.FieldType.float), none)
def tX1_lambda_all_2 : ev_T := (yX1_lambda_all_2, cX1_lambda_all_2, 4, (Option.some Jvm.ClassFile.FieldType.double), none)
def tX1_lambda_all_5 : ev_T := (yX1_lambda_all_5, cX1_lambda_all_5, 4, (Option.some Jvm.ClassFile.FieldType.double), none)
def tX1_lambda_all_8 : ev_T := (yX1_lambda_all_8, cX1_lambda_all_8, 4, (Option.some Jvm.ClassFile.FieldType.double), none)
def tX1_restIn : ev_T := (yX1_restIn, cX1_restIn, 4, (Option.some Jvm.ClassFile.FieldType.double), none)
def tX1_lambda_all_11 : ev_T := (yX1_lambda_all_11, cX1_lambda_all_11, 4, (Option.some Jvm.ClassFile.FieldType.double), none)
def tX1_lambda_all_14 : ev_T := (yX1_lambda_all_14, cX1_lambda_all_14, 4, (Option.some Jvm.ClassFile.FieldType.double), none)
def tX1_lambda_all_20 : ev_T := (yX1_lambda_all_20, cX1_lambda_all_20, 4, (Option.some Jvm.ClassFile.FieldType.double), none)
def tX1_lambda_all_23 : ev_T := (yX1_lambda_all_23, cX1_lambda_all_23, 4, (Option.some Jvm.ClassFile.FieldType.double), none)
def tX0_done : ev_T := (yX0_done, cX0_done, 6, (Option.some Jvm.ClassFile.FieldType.double), none)
def tX4_cast : ev_T := (yX4_cast, cX4_cast, 3, (Option.some Jvm.ClassFile.FieldType.double), none)
def tX2_brings : ev_T := (yX2_brings, cX2_brings, 8, (Option.none : Option Jvm.ClassFile.FieldType), none)
def tX0_isGreater : ev_T := (yX0_isGreater, cX0_isGreater, 5, (Option.some Jvm.ClassFile.FieldType.boolean), none)
def tX4_becomes : ev_T := (yX4_becomes, cX4_becomes, 4, (Option.none : Option Jvm.ClassFile.FieldType), none)
def tX2_writes : ev_T := (yX2_writes, cX2_writes, 6, (Option.none : Option Jvm.ClassFile.FieldType), none)
def tX2_acts : ev_T := (yX2_acts, cX2_acts, 9, (Option.some Jvm.ClassFile.FieldType.int), (some [(98, 131, 132, 165)]))
def tX2_goesOn : ev_T := (yX2_goesOn, cX2_goesOn, 2, (Option.none : Option Jvm.ClassFile.FieldType), none)
def tX2_steps : ev_T := (yX2_steps, cX2_steps, 3, (Option.some Jvm.ClassFile.FieldType.boolean), none)
def tX0_steps : ev_T := (yX0_steps, cX0_steps, 2, (Option.none : Option Jvm.ClassFile.FieldType), none)
def tX0_runs : ev_T := (yX0_runs, cX0_runs, 2, (Option.none : Option Jvm.ClassFile.FieldType), none)
def tX0_tellsRun : ev_T := (yX0_tellsRun, cX0_tellsRun, 2, (Option.some Jvm.ClassFile.FieldType.int), none)
def tX0_run : ev_T := (yX0_run, cX0_run, 1, (Option.some Jvm.ClassFile.FieldType.int), none)
def tX3_firstFrom : ev_T := (yX3_firstFrom, cX3_firstFrom, 5, (Option.some Jvm.ClassFile.FieldType.int), none)
def tX3_begins : ev_T := (yX3_begins, cX3_begins, 2, (Option.none : Option Jvm.ClassFile.FieldType), none)
def tX3_lacksPlace : ev_T := (yX3_lacksPlace, cX3_lacksPlace, 5, (Option.some Jvm.ClassFile.FieldType.int), none)
def tX3_read : ev_T := (yX3_read, cX3_read, 5, (Option.some Jvm.ClassFile.FieldType.double), none)
def tX3_formBy : ev_T := (yX3_formBy, cX3_formBy, 2, (Option.some Jvm.ClassFile.FieldType.int), none)
def tX3_widthOf : ev_T := (yX3_widthOf, cX3_widthOf, 6, (Option.some Jvm.ClassFile.FieldType.int), none)
def tX3_isInt : ev_T := (yX3_isInt, cX3_isInt, 2, (Option.some Jvm.ClassFile.FieldType.boolean), none)
def tX3_byInts : ev_T := (yX3_byInts, cX3_byInts, 6, (Option.some Jvm.ClassFile.FieldType.int), none)
def tX3_byFloats : ev_T := (yX3_byFloats, cX3_byFloats, 4, (Option.some Jvm.ClassFile.FieldType.float), none)
def tX3_zeroed : ev_T := (yX3_zeroed, cX3_zeroed, 2, (Option.some Jvm.ClassFile.FieldType.double), none)
def tX3_byDoubles : ev_T := (yX3_byDoubles, cX3_byDoubles, 6, (Option.some Jvm.ClassFile.FieldType.double), none)
def tX3_does : ev_T := (yX3_does, cX3_does, 7, (Option.some Jvm.ClassFile.FieldType.double), none)
def tX3_castTo : ev_T := (yX3_castTo, cX3_castTo, 3, (Option.some Jvm.ClassFile.FieldType.double), none)
def tX3_writes : ev_T := (yX3_writes, cX3_writes, 6, (Option.none : Option Jvm.ClassFile.FieldType), none)
def tX3_item : ev_T := (yX3_item, cX3_item, 11, (Option.some Jvm.ClassFile.FieldType.boolean), none)
def tX3_steps : ev_T := (yX3_steps, cX3_steps, 5, (Option.none : Option Jvm.ClassFile.FieldType), none)
def tX3_runNow : ev_T := (yX3_runNow, cX3_runNow, 2, (Option.some Jvm.ClassFile.FieldType.int), none)
def tX3_run : ev_T := (yX3_run, cX3_run, 1, (Option.some Jvm.ClassFile.FieldType.int), none)
def tX0_isTwo : ev_T := (yX0_isTwo, cX0_isTwo, 1, (Option.some Jvm.ClassFile.FieldType.boolean), none)
def tX0_isMix : ev_T := (yX0_isMix, cX0_isMix, 4, (Option.some Jvm.ClassFile.FieldType.boolean), none)
def tX0_serialRows : ev_T := (yX0_serialRows, cX0_serialRows, 3, (Option.some Jvm.ClassFile.FieldType.int), none)
def tX0_isParallel : ev_T := (yX0_isParallel, cX0_isParallel, 1, (Option.some Jvm.ClassFile.FieldType.boolean), none)
def tX0_dealOf : ev_T := (yX0_dealOf, cX0_dealOf, 4, (Option.some (Jvm.ClassFile.FieldType.object "StrideTurns$Deal")), none)
def tX0_lambda_dealOf_6 : ev_T := (yX0_lambda_dealOf_6, cX0_lambda_dealOf_6, 2, (Option.some Jvm.ClassFile.FieldType.int), none)
def tX0_lambda_dealOf_7 : ev_T := (yX0_lambda_dealOf_7, cX0_lambda_dealOf_7, 2, (Option.some Jvm.ClassFile.FieldType.int), none)
def tX0_next : ev_T := (yX0_next, cX0_next, 6, (Option.some (Jvm.ClassFile.FieldType.object "StrideTurns$Turn")), none)
def tX0_gathererOf : ev_T := (yX0_gathererOf, cX0_gathererOf, 3, (Option.some (Jvm.ClassFile.FieldType.object "StrideTurns$Statement")), none)
def tX0_comes : ev_T := (yX0_comes, cX0_comes, 9, (Option.none : Option Jvm.ClassFile.FieldType), none)
def tX0_comesOut : ev_T := (yX0_comesOut, cX0_comesOut, 4, (Option.none : Option Jvm.ClassFile.FieldType), none)
def tX0_mixes : ev_T := (yX0_mixes, cX0_mixes, 10, (Option.none : Option Jvm.ClassFile.FieldType), none)
def tX0_mixed : ev_T := (yX0_mixed, cX0_mixed, 5, (Option.some Jvm.ClassFile.FieldType.int), none)
def tX3_serials : ev_T := (yX3_serials, cX3_serials, 3, (Option.some Jvm.ClassFile.FieldType.int), none)
def tX3_mayMix : ev_T := (yX3_mayMix, cX3_mayMix, 5, (Option.some Jvm.ClassFile.FieldType.int), none)
def tX3_turnOf : ev_T := (yX3_turnOf, cX3_turnOf, 9, (Option.some Jvm.ClassFile.FieldType.int), none)
def tX3_left : ev_T := (yX3_left, cX3_left, 5, (Option.some Jvm.ClassFile.FieldType.int), none)
def tX3_copiesOut : ev_T := (yX3_copiesOut, cX3_copiesOut, 3, (Option.none : Option Jvm.ClassFile.FieldType), none)
def tX3_mixes : ev_T := (yX3_mixes, cX3_mixes, 10, (Option.some Jvm.ClassFile.FieldType.int), none)
def tX3_mixed : ev_T := (yX3_mixed, cX3_mixed, 6, (Option.some Jvm.ClassFile.FieldType.int), none)
def tX0_keeps : ev_T := (yX0_keeps, cX0_keeps, 5, (Option.none : Option Jvm.ClassFile.FieldType), none)
def tX0_keepsWriters : ev_T := (yX0_keepsWriters, cX0_keepsWriters, 4, (Option.none : Option Jvm.ClassFile.FieldType), none)
def tX0_takesBack : ev_T := (yX0_takesBack, cX0_takesBack, 4, (Option.none : Option Jvm.ClassFile.FieldType), none)
def tX0_isFound : ev_T := (yX0_isFound, cX0_isFound, 4, (Option.some Jvm.ClassFile.FieldType.boolean), none)
def tX0_sameBy : ev_T := (yX0_sameBy, cX0_sameBy, 16, (Option.some Jvm.ClassFile.FieldType.int), (some [(12, 121, 198, 0), (198, 200, 198, 0)]))
def tX0_same : ev_T := (yX0_same, cX0_same, 5, (Option.some Jvm.ClassFile.FieldType.int), none)
def tX3_sameNow : ev_T := (yX3_sameNow, cX3_sameNow, 9, (Option.some Jvm.ClassFile.FieldType.int), none)
def tX3_same : ev_T := (yX3_same, cX3_same, 6, (Option.some Jvm.ClassFile.FieldType.int), none)
def tX0_faults : ev_T := (yX0_faults, cX0_faults, 2, (Option.some Jvm.ClassFile.FieldType.int), none)
def tX3_faults : ev_T := (yX3_faults, cX3_faults, 2, (Option.some Jvm.ClassFile.FieldType.int), none)
def tX0_endedBy : ev_T := (yX0_endedBy, cX0_endedBy, 2, (Option.some Jvm.ClassFile.FieldType.int), none)
def tX0_ended : ev_T := (yX0_ended, cX0_ended, 2, (Option.some Jvm.ClassFile.FieldType.int), none)
def tX3_ended : ev_T := (yX3_ended, cX3_ended, 2, (Option.some Jvm.ClassFile.FieldType.int), none)
def tX0_writer : ev_T := (yX0_writer, cX0_writer, 4, (Option.some Jvm.ClassFile.FieldType.int), (some [(10, 21, 22, 124), (10, 21, 29, 132)]))
def tX3_writer : ev_T := (yX3_writer, cX3_writer, 4, (Option.some Jvm.ClassFile.FieldType.int), none)
def tX0_serialNow : ev_T := (yX0_serialNow, cX0_serialNow, 1, (Option.some Jvm.ClassFile.FieldType.int), none)
def tX0_missing : ev_T := (yX0_missing, cX0_missing, 6, (Option.some Jvm.ClassFile.FieldType.int), none)
def tX0_count : ev_T := (yX0_count, cX0_count, 2, (Option.some Jvm.ClassFile.FieldType.int), none)
def tX3_missing : ev_T := (yX3_missing, cX3_missing, 3, (Option.some Jvm.ClassFile.FieldType.int), none)
def tX3_count : ev_T := (yX3_count, cX3_count, 2, (Option.some Jvm.ClassFile.FieldType.int), none)
def tX0_tellsOf : ev_T := (yX0_tellsOf, cX0_tellsOf, 9, (Option.some Jvm.ClassFile.FieldType.long), none)
def tX0_tellsRow : ev_T := (yX0_tellsRow, cX0_tellsRow, 8, (Option.some Jvm.ClassFile.FieldType.long), none)
def tX0_tellsCells : ev_T := (yX0_tellsCells, cX0_tellsCells, 7, (Option.some Jvm.ClassFile.FieldType.long), none)
def tX0_digest : ev_T := (yX0_digest, cX0_digest, 4, (Option.some Jvm.ClassFile.FieldType.long), none)
def tX3_statementDigest : ev_T := (yX3_statementDigest, cX3_statementDigest, 8, (Option.some Jvm.ClassFile.FieldType.long), none)
def tX3_rowDigest : ev_T := (yX3_rowDigest, cX3_rowDigest, 9, (Option.some Jvm.ClassFile.FieldType.long), none)
def tX3_cellsDigest : ev_T := (yX3_cellsDigest, cX3_cellsDigest, 7, (Option.some Jvm.ClassFile.FieldType.long), none)
def tX3_digest : ev_T := (yX3_digest, cX3_digest, 4, (Option.some Jvm.ClassFile.FieldType.long), none)
def tL_law : ev_T := (⟨"StrideTurnsLaw", "law", "([I)Z"⟩, cL_law, 4, (Option.some Jvm.ClassFile.FieldType.boolean), none)
def mt_list : List ev_T := [(⟨"", "", ""⟩, ⟨#[]⟩, 1, none, none), tJ0_init, tJ1_init, tX1_init, tJ2_isLatin1, tJ4_signedHashCode, tJ4_utf16hashCode, tJ4_hashCode, tJ4_hashCode_2, tJ4_hashCode_3, tJ4_hashCode_4, tJ4_vectorizedHashCode, tJ3_hashCode, tJ2_hashCode, tX8_hashCode, tJ1_hash, tJ1_resize, tJ6_init, tJ1_newNode, tJ7_init, tJ34_linkNodeAtEnd, tJ34_newNode, tJ40_equals, tJ3_equals, tJ2_equals, tX8_equals, tJ1_treeifyBin, tJ1_afterNodeAccess, tJ34_afterNodeAccess, tJ1_afterNodeInsertion, tJ34_removeEldestEntry, tJ34_afterNodeInsertion, tJ1_putVal, tJ1_put, tX1_puts, tX1_all, tJ18_init, tJ19_init, tJ20_init, tJ21_init, tX2_init, tX0_init, tX3_init, tX0_in, tX0_isRow, tX4_made, tX4_init, tX0_finds, tX0_row, tX3_in, tX3_isRow, tX3_meets, tX3_row, tX0_lose, tX3_lose, tX4_lays, tX0_put, tX3_put, tX0_no, tJ27_isNaN, tJ27_floatToIntBits, tJ28_isNaN, tJ28_doubleToLongBits, tX4_tells, tX0_get, tX3_no, tX3_lacks, tX3_bitsOf, tX3_toldOf, tX3_get, tX0_copy, tX3_copy, tJ21_sub, tJ21_size, tJ21_elementAt, tJ21_inc, tJ21_pollFirst, tX5_init, tJ21_newCapacity, tJ8_min, tJ30_copyOf_2, tJ30_copyOf, tJ21_grow, tJ21_addLast, tX0_tells, tX0_turns, tX3_logs, tX3_turns, tX0_type, tX3_type, tX0_wipe, tX3_wipe, tJ31_init, tJ32_init, tJ8_max, tJ4_hugeLength, tJ4_newLength, tJ31_newCapacity, tJ30_copyOf_3, tJ31_ensureCapacityInternal, tJ31_isLatin1, tJ3_canEncode, tJ31_append, tJ32_append, tJ31_getValue, tJ31_length, tJ32_length, tJ30_checkLength, tJ30_copyOfRangeByte, tJ30_copyOfRange, tJ2_init_2, tJ2_init, tJ32_toString, tJ1_getNode, tJ1_get, tJ34_get, tX0_named, tJ20_size, tX7_init, tX6_init, tJ20_grow_2, tJ20_grow, tJ20_add_2, tJ20_add, tX0_statement, tX3_isTyped, tX3_isName, tX3_statement, tX0_isStatement, tX0_isReference, tJ12_checkIndex, tJ33_checkIndex, tJ20_elementData, tJ20_get, tX6_at, tX0_refer, tX3_isStatement, tX3_refer, tX7_moves, tX0_place, tX3_place, tX6_waits, tX0_guard, tX3_guard, tX0_mask, tX3_mask, tJ21_dec, tJ21_pollLast, tX0_lambda_turns_0, tJ20_fastRemove, tJ20_remove, tX0_lambda_statement_1, tX0_lambda_refer_2, tX0_lambda_place_3, tX0_lambda_guard_4, tX0_lambda_mask_5, tX0_undo, tX3_undo, tX4_isNumbers, tX0_numbers, tX7_isAlike, tX6_gathers, tX6_family, tX6_lambda_new_0, tX6_lambda_waits_1, tX4_has, tX4_isTrue, tX6_isDone, tX6_doneIn, tX6_tells, tX0_info, tX3_formAs, tX3_isNumbers, tX3_familyAs, tX3_isDone, tX3_doneMany, tX3_infoOf, tX3_info, tX7_tells, tX0_reference, tX3_referenceOf, tX3_reference, tX0_referenceAt, tX0_isTo, tX0_isTurn, tX7_lambda_new_0, tX7_lambda_moves_1, tJ8_abs, tX8_init, tX8_of, tX0_sectionAt, tX8_tells, tX0_section, tX3_isSection, tX3_placeOf, tX3_firstOf, tX3_manyOf, tX3_strideOf, tX3_sectionOf, tX3_section, tX0_divisor, tJ8_floorMod, tX8_last, tX8_meet, tX0_meet, tX3_hasPlace, tX3_meetOf, tX3_meet, tJ34_init, tX6_looks, tX9_init, tX0_kindsOf, tJ1_size, tX0_kinds, tX3_isLooked, tX3_addsKind, tX3_addsIf, tX3_findsKinds, tX3_kinds, tJ35_init, tJ34_sequencedValues, tJ34_values, tJ38_init, tJ39_init, tJ35_iterator, tJ38_hasNext, tJ38_nextNode, tJ39_next, tX0_nth, tX0_kind, tX3_kind, tX0_isSet, tX0_fits, tX0_setAt, tX0_cellsOf, tX1_isFirm, tX0_isOwn, tX0_reads, tX1_isDoubtful, tX0_goes, tX0_knows, tX0_bitsOf, tJ10_bitCount, tX0_many, tX3_isSet, tX3_bitAt, tX3_reads, tX3_knows, tX3_findsTurn, tX3_findsSets, tX3_bitsOfTurn, tX3_bitsOfSet, tX3_size, tX3_many, tJ11_numberOfTrailingZeros, tJ10_numberOfTrailingZeros, tX0_piece, tX0_without, tX0_piecesOf, tX0_pieces, tX3_nextBit, tX3_without, tX3_piecesOf, tX3_pieces, tX0_piece_2, tX3_pieceOf, tX3_piece, tX0_isShared, tX6_isOf, tX0_isGathered, tX0_waits, tX0_verdictBy, tX0_verdictOf, tX0_verdict, tX3_isWritten, tX3_isShared, tX3_isAbout, tX3_isGathered, tX3_isCopied, tX3_verdictAs, tX3_verdictOf, tX3_verdict, tX0_would, tX3_would, tX0_lastOf, tX0_witnessBy, tX0_witness, tX3_witnessOf, tX3_witness, tX0_last, tX3_lastOf, tX3_last, tX2_passes, tX2_begins, tX0_begins, tX2_isLeft, tX2_wrong, tX2_against, tX4_at, tX2_value, tX1_isWhole, tX0_formOf, tX0_widthOf, tX1_lambda_all_0, tX1_lambda_all_3, tX1_lambda_all_6, tX1_rest, tX1_lambda_all_9, tX1_lambda_all_12, tX1_lambda_all_15, tX1_lambda_all_16, tX1_lambda_all_17, tX1_lambda_all_18, tX1_lambda_all_21, tJ8_addExact, tX1_sum, tJ8_multiplyExact, tX1_product, tX1_lambda_all_1, tX1_lambda_all_4, tX1_lambda_all_7, tX1_restOf, tX1_lambda_all_10, tX1_lambda_all_13, tX1_lambda_all_19, tX1_lambda_all_22, tX1_lambda_all_2, tX1_lambda_all_5, tX1_lambda_all_8, tX1_restIn, tX1_lambda_all_11, tX1_lambda_all_14, tX1_lambda_all_20, tX1_lambda_all_23, tX0_done, tX4_cast, tX2_brings, tX0_isGreater, tX4_becomes, tX2_writes, tX2_acts, tX2_goesOn, tX2_steps, tX0_steps, tX0_runs, tX0_tellsRun, tX0_run, tX3_firstFrom, tX3_begins, tX3_lacksPlace, tX3_read, tX3_formBy, tX3_widthOf, tX3_isInt, tX3_byInts, tX3_byFloats, tX3_zeroed, tX3_byDoubles, tX3_does, tX3_castTo, tX3_writes, tX3_item, tX3_steps, tX3_runNow, tX3_run, tX0_isTwo, tX0_isMix, tX0_serialRows, tX0_isParallel, tX0_dealOf, tX0_lambda_dealOf_6, tX0_lambda_dealOf_7, tX0_next, tX0_gathererOf, tX0_comes, tX0_comesOut, tX0_mixes, tX0_mixed, tX3_serials, tX3_mayMix, tX3_turnOf, tX3_left, tX3_copiesOut, tX3_mixes, tX3_mixed, tX0_keeps, tX0_keepsWriters, tX0_takesBack, tX0_isFound, tX0_sameBy, tX0_same, tX3_sameNow, tX3_same, tX0_faults, tX3_faults, tX0_endedBy, tX0_ended, tX3_ended, tX0_writer, tX3_writer, tX0_serialNow, tX0_missing, tX0_count, tX3_missing, tX3_count, tX0_tellsOf, tX0_tellsRow, tX0_tellsCells, tX0_digest, tX3_statementDigest, tX3_rowDigest, tX3_cellsDigest, tX3_digest, tL_law]
def mt (y : Nat) : ev_T := mt_list.getD y (⟨"", "", ""⟩, ⟨#[]⟩, 0, none, none)
theorem mt_J0_init : mt 1 = tJ0_init := rfl
theorem mt_J1_init : mt 2 = tJ1_init := rfl
theorem mt_X1_init : mt 3 = tX1_init := rfl
theorem mt_J2_isLatin1 : mt 4 = tJ2_isLatin1 := rfl
theorem mt_J4_signedHashCode : mt 5 = tJ4_signedHashCode := rfl
theorem mt_J4_utf16hashCode : mt 6 = tJ4_utf16hashCode := rfl
theorem mt_J4_hashCode : mt 7 = tJ4_hashCode := rfl
theorem mt_J4_hashCode_2 : mt 8 = tJ4_hashCode_2 := rfl
theorem mt_J4_hashCode_3 : mt 9 = tJ4_hashCode_3 := rfl
theorem mt_J4_hashCode_4 : mt 10 = tJ4_hashCode_4 := rfl
theorem mt_J4_vectorizedHashCode : mt 11 = tJ4_vectorizedHashCode := rfl
theorem mt_J3_hashCode : mt 12 = tJ3_hashCode := rfl
theorem mt_J2_hashCode : mt 13 = tJ2_hashCode := rfl
theorem mt_X8_hashCode : mt 14 = tX8_hashCode := rfl
theorem mt_J1_hash : mt 15 = tJ1_hash := rfl
theorem mt_J1_resize : mt 16 = tJ1_resize := rfl
theorem mt_J6_init : mt 17 = tJ6_init := rfl
theorem mt_J1_newNode : mt 18 = tJ1_newNode := rfl
theorem mt_J7_init : mt 19 = tJ7_init := rfl
theorem mt_J34_linkNodeAtEnd : mt 20 = tJ34_linkNodeAtEnd := rfl
theorem mt_J34_newNode : mt 21 = tJ34_newNode := rfl
theorem mt_J40_equals : mt 22 = tJ40_equals := rfl
theorem mt_J3_equals : mt 23 = tJ3_equals := rfl
theorem mt_J2_equals : mt 24 = tJ2_equals := rfl
theorem mt_X8_equals : mt 25 = tX8_equals := rfl
theorem mt_J1_treeifyBin : mt 26 = tJ1_treeifyBin := rfl
theorem mt_J1_afterNodeAccess : mt 27 = tJ1_afterNodeAccess := rfl
theorem mt_J34_afterNodeAccess : mt 28 = tJ34_afterNodeAccess := rfl
theorem mt_J1_afterNodeInsertion : mt 29 = tJ1_afterNodeInsertion := rfl
theorem mt_J34_removeEldestEntry : mt 30 = tJ34_removeEldestEntry := rfl
theorem mt_J34_afterNodeInsertion : mt 31 = tJ34_afterNodeInsertion := rfl
theorem mt_J1_putVal : mt 32 = tJ1_putVal := rfl
theorem mt_J1_put : mt 33 = tJ1_put := rfl
theorem mt_X1_puts : mt 34 = tX1_puts := rfl
theorem mt_X1_all : mt 35 = tX1_all := rfl
theorem mt_J18_init : mt 36 = tJ18_init := rfl
theorem mt_J19_init : mt 37 = tJ19_init := rfl
theorem mt_J20_init : mt 38 = tJ20_init := rfl
theorem mt_J21_init : mt 39 = tJ21_init := rfl
theorem mt_X2_init : mt 40 = tX2_init := rfl
theorem mt_X0_init : mt 41 = tX0_init := rfl
theorem mt_X3_init : mt 42 = tX3_init := rfl
theorem mt_X0_in : mt 43 = tX0_in := rfl
theorem mt_X0_isRow : mt 44 = tX0_isRow := rfl
theorem mt_X4_made : mt 45 = tX4_made := rfl
theorem mt_X4_init : mt 46 = tX4_init := rfl
theorem mt_X0_finds : mt 47 = tX0_finds := rfl
theorem mt_X0_row : mt 48 = tX0_row := rfl
theorem mt_X3_in : mt 49 = tX3_in := rfl
theorem mt_X3_isRow : mt 50 = tX3_isRow := rfl
theorem mt_X3_meets : mt 51 = tX3_meets := rfl
theorem mt_X3_row : mt 52 = tX3_row := rfl
theorem mt_X0_lose : mt 53 = tX0_lose := rfl
theorem mt_X3_lose : mt 54 = tX3_lose := rfl
theorem mt_X4_lays : mt 55 = tX4_lays := rfl
theorem mt_X0_put : mt 56 = tX0_put := rfl
theorem mt_X3_put : mt 57 = tX3_put := rfl
theorem mt_X0_no : mt 58 = tX0_no := rfl
theorem mt_J27_isNaN : mt 59 = tJ27_isNaN := rfl
theorem mt_J27_floatToIntBits : mt 60 = tJ27_floatToIntBits := rfl
theorem mt_J28_isNaN : mt 61 = tJ28_isNaN := rfl
theorem mt_J28_doubleToLongBits : mt 62 = tJ28_doubleToLongBits := rfl
theorem mt_X4_tells : mt 63 = tX4_tells := rfl
theorem mt_X0_get : mt 64 = tX0_get := rfl
theorem mt_X3_no : mt 65 = tX3_no := rfl
theorem mt_X3_lacks : mt 66 = tX3_lacks := rfl
theorem mt_X3_bitsOf : mt 67 = tX3_bitsOf := rfl
theorem mt_X3_toldOf : mt 68 = tX3_toldOf := rfl
theorem mt_X3_get : mt 69 = tX3_get := rfl
theorem mt_X0_copy : mt 70 = tX0_copy := rfl
theorem mt_X3_copy : mt 71 = tX3_copy := rfl
theorem mt_J21_sub : mt 72 = tJ21_sub := rfl
theorem mt_J21_size : mt 73 = tJ21_size := rfl
theorem mt_J21_elementAt : mt 74 = tJ21_elementAt := rfl
theorem mt_J21_inc : mt 75 = tJ21_inc := rfl
theorem mt_J21_pollFirst : mt 76 = tJ21_pollFirst := rfl
theorem mt_X5_init : mt 77 = tX5_init := rfl
theorem mt_J21_newCapacity : mt 78 = tJ21_newCapacity := rfl
theorem mt_J8_min : mt 79 = tJ8_min := rfl
theorem mt_J30_copyOf_2 : mt 80 = tJ30_copyOf_2 := rfl
theorem mt_J30_copyOf : mt 81 = tJ30_copyOf := rfl
theorem mt_J21_grow : mt 82 = tJ21_grow := rfl
theorem mt_J21_addLast : mt 83 = tJ21_addLast := rfl
theorem mt_X0_tells : mt 84 = tX0_tells := rfl
theorem mt_X0_turns : mt 85 = tX0_turns := rfl
theorem mt_X3_logs : mt 86 = tX3_logs := rfl
theorem mt_X3_turns : mt 87 = tX3_turns := rfl
theorem mt_X0_type : mt 88 = tX0_type := rfl
theorem mt_X3_type : mt 89 = tX3_type := rfl
theorem mt_X0_wipe : mt 90 = tX0_wipe := rfl
theorem mt_X3_wipe : mt 91 = tX3_wipe := rfl
theorem mt_J31_init : mt 92 = tJ31_init := rfl
theorem mt_J32_init : mt 93 = tJ32_init := rfl
theorem mt_J8_max : mt 94 = tJ8_max := rfl
theorem mt_J4_hugeLength : mt 95 = tJ4_hugeLength := rfl
theorem mt_J4_newLength : mt 96 = tJ4_newLength := rfl
theorem mt_J31_newCapacity : mt 97 = tJ31_newCapacity := rfl
theorem mt_J30_copyOf_3 : mt 98 = tJ30_copyOf_3 := rfl
theorem mt_J31_ensureCapacityInternal : mt 99 = tJ31_ensureCapacityInternal := rfl
theorem mt_J31_isLatin1 : mt 100 = tJ31_isLatin1 := rfl
theorem mt_J3_canEncode : mt 101 = tJ3_canEncode := rfl
theorem mt_J31_append : mt 102 = tJ31_append := rfl
theorem mt_J32_append : mt 103 = tJ32_append := rfl
theorem mt_J31_getValue : mt 104 = tJ31_getValue := rfl
theorem mt_J31_length : mt 105 = tJ31_length := rfl
theorem mt_J32_length : mt 106 = tJ32_length := rfl
theorem mt_J30_checkLength : mt 107 = tJ30_checkLength := rfl
theorem mt_J30_copyOfRangeByte : mt 108 = tJ30_copyOfRangeByte := rfl
theorem mt_J30_copyOfRange : mt 109 = tJ30_copyOfRange := rfl
theorem mt_J2_init_2 : mt 110 = tJ2_init_2 := rfl
theorem mt_J2_init : mt 111 = tJ2_init := rfl
theorem mt_J32_toString : mt 112 = tJ32_toString := rfl
theorem mt_J1_getNode : mt 113 = tJ1_getNode := rfl
theorem mt_J1_get : mt 114 = tJ1_get := rfl
theorem mt_J34_get : mt 115 = tJ34_get := rfl
theorem mt_X0_named : mt 116 = tX0_named := rfl
theorem mt_J20_size : mt 117 = tJ20_size := rfl
theorem mt_X7_init : mt 118 = tX7_init := rfl
theorem mt_X6_init : mt 119 = tX6_init := rfl
theorem mt_J20_grow_2 : mt 120 = tJ20_grow_2 := rfl
theorem mt_J20_grow : mt 121 = tJ20_grow := rfl
theorem mt_J20_add_2 : mt 122 = tJ20_add_2 := rfl
theorem mt_J20_add : mt 123 = tJ20_add := rfl
theorem mt_X0_statement : mt 124 = tX0_statement := rfl
theorem mt_X3_isTyped : mt 125 = tX3_isTyped := rfl
theorem mt_X3_isName : mt 126 = tX3_isName := rfl
theorem mt_X3_statement : mt 127 = tX3_statement := rfl
theorem mt_X0_isStatement : mt 128 = tX0_isStatement := rfl
theorem mt_X0_isReference : mt 129 = tX0_isReference := rfl
theorem mt_J12_checkIndex : mt 130 = tJ12_checkIndex := rfl
theorem mt_J33_checkIndex : mt 131 = tJ33_checkIndex := rfl
theorem mt_J20_elementData : mt 132 = tJ20_elementData := rfl
theorem mt_J20_get : mt 133 = tJ20_get := rfl
theorem mt_X6_at : mt 134 = tX6_at := rfl
theorem mt_X0_refer : mt 135 = tX0_refer := rfl
theorem mt_X3_isStatement : mt 136 = tX3_isStatement := rfl
theorem mt_X3_refer : mt 137 = tX3_refer := rfl
theorem mt_X7_moves : mt 138 = tX7_moves := rfl
theorem mt_X0_place : mt 139 = tX0_place := rfl
theorem mt_X3_place : mt 140 = tX3_place := rfl
theorem mt_X6_waits : mt 141 = tX6_waits := rfl
theorem mt_X0_guard : mt 142 = tX0_guard := rfl
theorem mt_X3_guard : mt 143 = tX3_guard := rfl
theorem mt_X0_mask : mt 144 = tX0_mask := rfl
theorem mt_X3_mask : mt 145 = tX3_mask := rfl
theorem mt_J21_dec : mt 146 = tJ21_dec := rfl
theorem mt_J21_pollLast : mt 147 = tJ21_pollLast := rfl
theorem mt_X0_lambda_turns_0 : mt 148 = tX0_lambda_turns_0 := rfl
theorem mt_J20_fastRemove : mt 149 = tJ20_fastRemove := rfl
theorem mt_J20_remove : mt 150 = tJ20_remove := rfl
theorem mt_X0_lambda_statement_1 : mt 151 = tX0_lambda_statement_1 := rfl
theorem mt_X0_lambda_refer_2 : mt 152 = tX0_lambda_refer_2 := rfl
theorem mt_X0_lambda_place_3 : mt 153 = tX0_lambda_place_3 := rfl
theorem mt_X0_lambda_guard_4 : mt 154 = tX0_lambda_guard_4 := rfl
theorem mt_X0_lambda_mask_5 : mt 155 = tX0_lambda_mask_5 := rfl
theorem mt_X0_undo : mt 156 = tX0_undo := rfl
theorem mt_X3_undo : mt 157 = tX3_undo := rfl
theorem mt_X4_isNumbers : mt 158 = tX4_isNumbers := rfl
theorem mt_X0_numbers : mt 159 = tX0_numbers := rfl
theorem mt_X7_isAlike : mt 160 = tX7_isAlike := rfl
theorem mt_X6_gathers : mt 161 = tX6_gathers := rfl
theorem mt_X6_family : mt 162 = tX6_family := rfl
theorem mt_X6_lambda_new_0 : mt 163 = tX6_lambda_new_0 := rfl
theorem mt_X6_lambda_waits_1 : mt 164 = tX6_lambda_waits_1 := rfl
theorem mt_X4_has : mt 165 = tX4_has := rfl
theorem mt_X4_isTrue : mt 166 = tX4_isTrue := rfl
theorem mt_X6_isDone : mt 167 = tX6_isDone := rfl
theorem mt_X6_doneIn : mt 168 = tX6_doneIn := rfl
theorem mt_X6_tells : mt 169 = tX6_tells := rfl
theorem mt_X0_info : mt 170 = tX0_info := rfl
theorem mt_X3_formAs : mt 171 = tX3_formAs := rfl
theorem mt_X3_isNumbers : mt 172 = tX3_isNumbers := rfl
theorem mt_X3_familyAs : mt 173 = tX3_familyAs := rfl
theorem mt_X3_isDone : mt 174 = tX3_isDone := rfl
theorem mt_X3_doneMany : mt 175 = tX3_doneMany := rfl
theorem mt_X3_infoOf : mt 176 = tX3_infoOf := rfl
theorem mt_X3_info : mt 177 = tX3_info := rfl
theorem mt_X7_tells : mt 178 = tX7_tells := rfl
theorem mt_X0_reference : mt 179 = tX0_reference := rfl
theorem mt_X3_referenceOf : mt 180 = tX3_referenceOf := rfl
theorem mt_X3_reference : mt 181 = tX3_reference := rfl
theorem mt_X0_referenceAt : mt 182 = tX0_referenceAt := rfl
theorem mt_X0_isTo : mt 183 = tX0_isTo := rfl
theorem mt_X0_isTurn : mt 184 = tX0_isTurn := rfl
theorem mt_X7_lambda_new_0 : mt 185 = tX7_lambda_new_0 := rfl
theorem mt_X7_lambda_moves_1 : mt 186 = tX7_lambda_moves_1 := rfl
theorem mt_J8_abs : mt 187 = tJ8_abs := rfl
theorem mt_X8_init : mt 188 = tX8_init := rfl
theorem mt_X8_of : mt 189 = tX8_of := rfl
theorem mt_X0_sectionAt : mt 190 = tX0_sectionAt := rfl
theorem mt_X8_tells : mt 191 = tX8_tells := rfl
theorem mt_X0_section : mt 192 = tX0_section := rfl
theorem mt_X3_isSection : mt 193 = tX3_isSection := rfl
theorem mt_X3_placeOf : mt 194 = tX3_placeOf := rfl
theorem mt_X3_firstOf : mt 195 = tX3_firstOf := rfl
theorem mt_X3_manyOf : mt 196 = tX3_manyOf := rfl
theorem mt_X3_strideOf : mt 197 = tX3_strideOf := rfl
theorem mt_X3_sectionOf : mt 198 = tX3_sectionOf := rfl
theorem mt_X3_section : mt 199 = tX3_section := rfl
theorem mt_X0_divisor : mt 200 = tX0_divisor := rfl
theorem mt_J8_floorMod : mt 201 = tJ8_floorMod := rfl
theorem mt_X8_last : mt 202 = tX8_last := rfl
theorem mt_X8_meet : mt 203 = tX8_meet := rfl
theorem mt_X0_meet : mt 204 = tX0_meet := rfl
theorem mt_X3_hasPlace : mt 205 = tX3_hasPlace := rfl
theorem mt_X3_meetOf : mt 206 = tX3_meetOf := rfl
theorem mt_X3_meet : mt 207 = tX3_meet := rfl
theorem mt_J34_init : mt 208 = tJ34_init := rfl
theorem mt_X6_looks : mt 209 = tX6_looks := rfl
theorem mt_X9_init : mt 210 = tX9_init := rfl
theorem mt_X0_kindsOf : mt 211 = tX0_kindsOf := rfl
theorem mt_J1_size : mt 212 = tJ1_size := rfl
theorem mt_X0_kinds : mt 213 = tX0_kinds := rfl
theorem mt_X3_isLooked : mt 214 = tX3_isLooked := rfl
theorem mt_X3_addsKind : mt 215 = tX3_addsKind := rfl
theorem mt_X3_addsIf : mt 216 = tX3_addsIf := rfl
theorem mt_X3_findsKinds : mt 217 = tX3_findsKinds := rfl
theorem mt_X3_kinds : mt 218 = tX3_kinds := rfl
theorem mt_J35_init : mt 219 = tJ35_init := rfl
theorem mt_J34_sequencedValues : mt 220 = tJ34_sequencedValues := rfl
theorem mt_J34_values : mt 221 = tJ34_values := rfl
theorem mt_J38_init : mt 222 = tJ38_init := rfl
theorem mt_J39_init : mt 223 = tJ39_init := rfl
theorem mt_J35_iterator : mt 224 = tJ35_iterator := rfl
theorem mt_J38_hasNext : mt 225 = tJ38_hasNext := rfl
theorem mt_J38_nextNode : mt 226 = tJ38_nextNode := rfl
theorem mt_J39_next : mt 227 = tJ39_next := rfl
theorem mt_X0_nth : mt 228 = tX0_nth := rfl
theorem mt_X0_kind : mt 229 = tX0_kind := rfl
theorem mt_X3_kind : mt 230 = tX3_kind := rfl
theorem mt_X0_isSet : mt 231 = tX0_isSet := rfl
theorem mt_X0_fits : mt 232 = tX0_fits := rfl
theorem mt_X0_setAt : mt 233 = tX0_setAt := rfl
theorem mt_X0_cellsOf : mt 234 = tX0_cellsOf := rfl
theorem mt_X1_isFirm : mt 235 = tX1_isFirm := rfl
theorem mt_X0_isOwn : mt 236 = tX0_isOwn := rfl
theorem mt_X0_reads : mt 237 = tX0_reads := rfl
theorem mt_X1_isDoubtful : mt 238 = tX1_isDoubtful := rfl
theorem mt_X0_goes : mt 239 = tX0_goes := rfl
theorem mt_X0_knows : mt 240 = tX0_knows := rfl
theorem mt_X0_bitsOf : mt 241 = tX0_bitsOf := rfl
theorem mt_J10_bitCount : mt 242 = tJ10_bitCount := rfl
theorem mt_X0_many : mt 243 = tX0_many := rfl
theorem mt_X3_isSet : mt 244 = tX3_isSet := rfl
theorem mt_X3_bitAt : mt 245 = tX3_bitAt := rfl
theorem mt_X3_reads : mt 246 = tX3_reads := rfl
theorem mt_X3_knows : mt 247 = tX3_knows := rfl
theorem mt_X3_findsTurn : mt 248 = tX3_findsTurn := rfl
theorem mt_X3_findsSets : mt 249 = tX3_findsSets := rfl
theorem mt_X3_bitsOfTurn : mt 250 = tX3_bitsOfTurn := rfl
theorem mt_X3_bitsOfSet : mt 251 = tX3_bitsOfSet := rfl
theorem mt_X3_size : mt 252 = tX3_size := rfl
theorem mt_X3_many : mt 253 = tX3_many := rfl
theorem mt_J11_numberOfTrailingZeros : mt 254 = tJ11_numberOfTrailingZeros := rfl
theorem mt_J10_numberOfTrailingZeros : mt 255 = tJ10_numberOfTrailingZeros := rfl
theorem mt_X0_piece : mt 256 = tX0_piece := rfl
theorem mt_X0_without : mt 257 = tX0_without := rfl
theorem mt_X0_piecesOf : mt 258 = tX0_piecesOf := rfl
theorem mt_X0_pieces : mt 259 = tX0_pieces := rfl
theorem mt_X3_nextBit : mt 260 = tX3_nextBit := rfl
theorem mt_X3_without : mt 261 = tX3_without := rfl
theorem mt_X3_piecesOf : mt 262 = tX3_piecesOf := rfl
theorem mt_X3_pieces : mt 263 = tX3_pieces := rfl
theorem mt_X0_piece_2 : mt 264 = tX0_piece_2 := rfl
theorem mt_X3_pieceOf : mt 265 = tX3_pieceOf := rfl
theorem mt_X3_piece : mt 266 = tX3_piece := rfl
theorem mt_X0_isShared : mt 267 = tX0_isShared := rfl
theorem mt_X6_isOf : mt 268 = tX6_isOf := rfl
theorem mt_X0_isGathered : mt 269 = tX0_isGathered := rfl
theorem mt_X0_waits : mt 270 = tX0_waits := rfl
theorem mt_X0_verdictBy : mt 271 = tX0_verdictBy := rfl
theorem mt_X0_verdictOf : mt 272 = tX0_verdictOf := rfl
theorem mt_X0_verdict : mt 273 = tX0_verdict := rfl
theorem mt_X3_isWritten : mt 274 = tX3_isWritten := rfl
theorem mt_X3_isShared : mt 275 = tX3_isShared := rfl
theorem mt_X3_isAbout : mt 276 = tX3_isAbout := rfl
theorem mt_X3_isGathered : mt 277 = tX3_isGathered := rfl
theorem mt_X3_isCopied : mt 278 = tX3_isCopied := rfl
theorem mt_X3_verdictAs : mt 279 = tX3_verdictAs := rfl
theorem mt_X3_verdictOf : mt 280 = tX3_verdictOf := rfl
theorem mt_X3_verdict : mt 281 = tX3_verdict := rfl
theorem mt_X0_would : mt 282 = tX0_would := rfl
theorem mt_X3_would : mt 283 = tX3_would := rfl
theorem mt_X0_lastOf : mt 284 = tX0_lastOf := rfl
theorem mt_X0_witnessBy : mt 285 = tX0_witnessBy := rfl
theorem mt_X0_witness : mt 286 = tX0_witness := rfl
theorem mt_X3_witnessOf : mt 287 = tX3_witnessOf := rfl
theorem mt_X3_witness : mt 288 = tX3_witness := rfl
theorem mt_X0_last : mt 289 = tX0_last := rfl
theorem mt_X3_lastOf : mt 290 = tX3_lastOf := rfl
theorem mt_X3_last : mt 291 = tX3_last := rfl
theorem mt_X2_passes : mt 292 = tX2_passes := rfl
theorem mt_X2_begins : mt 293 = tX2_begins := rfl
theorem mt_X0_begins : mt 294 = tX0_begins := rfl
theorem mt_X2_isLeft : mt 295 = tX2_isLeft := rfl
theorem mt_X2_wrong : mt 296 = tX2_wrong := rfl
theorem mt_X2_against : mt 297 = tX2_against := rfl
theorem mt_X4_at : mt 298 = tX4_at := rfl
theorem mt_X2_value : mt 299 = tX2_value := rfl
theorem mt_X1_isWhole : mt 300 = tX1_isWhole := rfl
theorem mt_X0_formOf : mt 301 = tX0_formOf := rfl
theorem mt_X0_widthOf : mt 302 = tX0_widthOf := rfl
theorem mt_X1_lambda_all_0 : mt 303 = tX1_lambda_all_0 := rfl
theorem mt_X1_lambda_all_3 : mt 304 = tX1_lambda_all_3 := rfl
theorem mt_X1_lambda_all_6 : mt 305 = tX1_lambda_all_6 := rfl
theorem mt_X1_rest : mt 306 = tX1_rest := rfl
theorem mt_X1_lambda_all_9 : mt 307 = tX1_lambda_all_9 := rfl
theorem mt_X1_lambda_all_12 : mt 308 = tX1_lambda_all_12 := rfl
theorem mt_X1_lambda_all_15 : mt 309 = tX1_lambda_all_15 := rfl
theorem mt_X1_lambda_all_16 : mt 310 = tX1_lambda_all_16 := rfl
theorem mt_X1_lambda_all_17 : mt 311 = tX1_lambda_all_17 := rfl
theorem mt_X1_lambda_all_18 : mt 312 = tX1_lambda_all_18 := rfl
theorem mt_X1_lambda_all_21 : mt 313 = tX1_lambda_all_21 := rfl
theorem mt_J8_addExact : mt 314 = tJ8_addExact := rfl
theorem mt_X1_sum : mt 315 = tX1_sum := rfl
theorem mt_J8_multiplyExact : mt 316 = tJ8_multiplyExact := rfl
theorem mt_X1_product : mt 317 = tX1_product := rfl
theorem mt_X1_lambda_all_1 : mt 318 = tX1_lambda_all_1 := rfl
theorem mt_X1_lambda_all_4 : mt 319 = tX1_lambda_all_4 := rfl
theorem mt_X1_lambda_all_7 : mt 320 = tX1_lambda_all_7 := rfl
theorem mt_X1_restOf : mt 321 = tX1_restOf := rfl
theorem mt_X1_lambda_all_10 : mt 322 = tX1_lambda_all_10 := rfl
theorem mt_X1_lambda_all_13 : mt 323 = tX1_lambda_all_13 := rfl
theorem mt_X1_lambda_all_19 : mt 324 = tX1_lambda_all_19 := rfl
theorem mt_X1_lambda_all_22 : mt 325 = tX1_lambda_all_22 := rfl
theorem mt_X1_lambda_all_2 : mt 326 = tX1_lambda_all_2 := rfl
theorem mt_X1_lambda_all_5 : mt 327 = tX1_lambda_all_5 := rfl
theorem mt_X1_lambda_all_8 : mt 328 = tX1_lambda_all_8 := rfl
theorem mt_X1_restIn : mt 329 = tX1_restIn := rfl
theorem mt_X1_lambda_all_11 : mt 330 = tX1_lambda_all_11 := rfl
theorem mt_X1_lambda_all_14 : mt 331 = tX1_lambda_all_14 := rfl
theorem mt_X1_lambda_all_20 : mt 332 = tX1_lambda_all_20 := rfl
theorem mt_X1_lambda_all_23 : mt 333 = tX1_lambda_all_23 := rfl
theorem mt_X0_done : mt 334 = tX0_done := rfl
theorem mt_X4_cast : mt 335 = tX4_cast := rfl
theorem mt_X2_brings : mt 336 = tX2_brings := rfl
theorem mt_X0_isGreater : mt 337 = tX0_isGreater := rfl
theorem mt_X4_becomes : mt 338 = tX4_becomes := rfl
theorem mt_X2_writes : mt 339 = tX2_writes := rfl
theorem mt_X2_acts : mt 340 = tX2_acts := rfl
theorem mt_X2_goesOn : mt 341 = tX2_goesOn := rfl
theorem mt_X2_steps : mt 342 = tX2_steps := rfl
theorem mt_X0_steps : mt 343 = tX0_steps := rfl
theorem mt_X0_runs : mt 344 = tX0_runs := rfl
theorem mt_X0_tellsRun : mt 345 = tX0_tellsRun := rfl
theorem mt_X0_run : mt 346 = tX0_run := rfl
theorem mt_X3_firstFrom : mt 347 = tX3_firstFrom := rfl
theorem mt_X3_begins : mt 348 = tX3_begins := rfl
theorem mt_X3_lacksPlace : mt 349 = tX3_lacksPlace := rfl
theorem mt_X3_read : mt 350 = tX3_read := rfl
theorem mt_X3_formBy : mt 351 = tX3_formBy := rfl
theorem mt_X3_widthOf : mt 352 = tX3_widthOf := rfl
theorem mt_X3_isInt : mt 353 = tX3_isInt := rfl
theorem mt_X3_byInts : mt 354 = tX3_byInts := rfl
theorem mt_X3_byFloats : mt 355 = tX3_byFloats := rfl
theorem mt_X3_zeroed : mt 356 = tX3_zeroed := rfl
theorem mt_X3_byDoubles : mt 357 = tX3_byDoubles := rfl
theorem mt_X3_does : mt 358 = tX3_does := rfl
theorem mt_X3_castTo : mt 359 = tX3_castTo := rfl
theorem mt_X3_writes : mt 360 = tX3_writes := rfl
theorem mt_X3_item : mt 361 = tX3_item := rfl
theorem mt_X3_steps : mt 362 = tX3_steps := rfl
theorem mt_X3_runNow : mt 363 = tX3_runNow := rfl
theorem mt_X3_run : mt 364 = tX3_run := rfl
theorem mt_X0_isTwo : mt 365 = tX0_isTwo := rfl
theorem mt_X0_isMix : mt 366 = tX0_isMix := rfl
theorem mt_X0_serialRows : mt 367 = tX0_serialRows := rfl
theorem mt_X0_isParallel : mt 368 = tX0_isParallel := rfl
theorem mt_X0_dealOf : mt 369 = tX0_dealOf := rfl
theorem mt_X0_lambda_dealOf_6 : mt 370 = tX0_lambda_dealOf_6 := rfl
theorem mt_X0_lambda_dealOf_7 : mt 371 = tX0_lambda_dealOf_7 := rfl
theorem mt_X0_next : mt 372 = tX0_next := rfl
theorem mt_X0_gathererOf : mt 373 = tX0_gathererOf := rfl
theorem mt_X0_comes : mt 374 = tX0_comes := rfl
theorem mt_X0_comesOut : mt 375 = tX0_comesOut := rfl
theorem mt_X0_mixes : mt 376 = tX0_mixes := rfl
theorem mt_X0_mixed : mt 377 = tX0_mixed := rfl
theorem mt_X3_serials : mt 378 = tX3_serials := rfl
theorem mt_X3_mayMix : mt 379 = tX3_mayMix := rfl
theorem mt_X3_turnOf : mt 380 = tX3_turnOf := rfl
theorem mt_X3_left : mt 381 = tX3_left := rfl
theorem mt_X3_copiesOut : mt 382 = tX3_copiesOut := rfl
theorem mt_X3_mixes : mt 383 = tX3_mixes := rfl
theorem mt_X3_mixed : mt 384 = tX3_mixed := rfl
theorem mt_X0_keeps : mt 385 = tX0_keeps := rfl
theorem mt_X0_keepsWriters : mt 386 = tX0_keepsWriters := rfl
theorem mt_X0_takesBack : mt 387 = tX0_takesBack := rfl
theorem mt_X0_isFound : mt 388 = tX0_isFound := rfl
theorem mt_X0_sameBy : mt 389 = tX0_sameBy := rfl
theorem mt_X0_same : mt 390 = tX0_same := rfl
theorem mt_X3_sameNow : mt 391 = tX3_sameNow := rfl
theorem mt_X3_same : mt 392 = tX3_same := rfl
theorem mt_X0_faults : mt 393 = tX0_faults := rfl
theorem mt_X3_faults : mt 394 = tX3_faults := rfl
theorem mt_X0_endedBy : mt 395 = tX0_endedBy := rfl
theorem mt_X0_ended : mt 396 = tX0_ended := rfl
theorem mt_X3_ended : mt 397 = tX3_ended := rfl
theorem mt_X0_writer : mt 398 = tX0_writer := rfl
theorem mt_X3_writer : mt 399 = tX3_writer := rfl
theorem mt_X0_serialNow : mt 400 = tX0_serialNow := rfl
theorem mt_X0_missing : mt 401 = tX0_missing := rfl
theorem mt_X0_count : mt 402 = tX0_count := rfl
theorem mt_X3_missing : mt 403 = tX3_missing := rfl
theorem mt_X3_count : mt 404 = tX3_count := rfl
theorem mt_X0_tellsOf : mt 405 = tX0_tellsOf := rfl
theorem mt_X0_tellsRow : mt 406 = tX0_tellsRow := rfl
theorem mt_X0_tellsCells : mt 407 = tX0_tellsCells := rfl
theorem mt_X0_digest : mt 408 = tX0_digest := rfl
theorem mt_X3_statementDigest : mt 409 = tX3_statementDigest := rfl
theorem mt_X3_rowDigest : mt 410 = tX3_rowDigest := rfl
theorem mt_X3_cellsDigest : mt 411 = tX3_cellsDigest := rfl
theorem mt_X3_digest : mt 412 = tX3_digest := rfl
theorem mt_L_law : mt 413 = tL_law := rfl
theorem capl_of {ts : List FieldType} (h : ts.all (fun t => match t with | .int => true | .object _ => true | _ => false) = true) : ∀ t ∈ ts, t = .int ∨ ∃ n, t = .object n := by
  intro t ht
  have h1 := List.all_eq_true.mp h t ht
  cases t <;> first | (cases h1; done) | exact Or.inl rfl | exact Or.inr ⟨_, rfl⟩
-- words
theorem q1202 : (Jvm.Cond.castable "java/lang/NegativeArraySizeException" "java/lang/NegativeArraySizeException") ∈ lw_tbl := lw_at lw_m5 109 rfl
theorem q1276 : (Jvm.Cond.castable "java/lang/NullPointerException" "java/lang/NullPointerException") ∈ lw_tbl := lw_at lw_m5 183 rfl
theorem q1295 : (Jvm.Cond.castable "java/lang/ClassCastException" "java/lang/ClassCastException") ∈ lw_tbl := lw_at lw_m5 202 rfl
theorem q1312 : (Jvm.Cond.castable "java/lang/ArrayIndexOutOfBoundsException" "java/lang/ArrayIndexOutOfBoundsException") ∈ lw_tbl := lw_at lw_m5 219 rfl
theorem q3214 : (Jvm.Cond.castable "java/lang/ArrayIndexOutOfBoundsException" "java/lang/IndexOutOfBoundsException") ∈ lw_tbl := lw_at lw_m13 201 rfl
theorem q1375 : (Jvm.Cond.castable "java/lang/ArrayStoreException" "java/lang/ArrayStoreException") ∈ lw_tbl := lw_at lw_m6 42 rfl
theorem q155 : (Jvm.Cond.initialized "java/lang/ArithmeticException") ∈ lw_all := lw_g (lw_at lw_m1 22 rfl) rfl
theorem q935 : (Jvm.Cond.castable "java/lang/ArithmeticException" "java/lang/ArithmeticException") ∈ lw_tbl := lw_at lw_m4 82 rfl
theorem ln_0 : npar "()V" = some 0 := by decide +kernel
theorem lf_1 : FLD "java/util/HashMap" "loadFactor" "F" 2 7 [11, 12] := fld_c ⟨by decide, by decide⟩ (by decide) rfl (fun h => absurd h (by decide)) rfl rfl (Or.inl rfl) (fld_c ⟨by decide, by decide⟩ (by decide) rfl (fun h => absurd h (by decide)) rfl rfl (Or.inl rfl) (fld_n))
theorem lp_2 : PUO "java/util/HashMap" 7 [11, 12] := puo_c (by decide) (Or.inr rfl) (puo_c (by decide) (Or.inr rfl) (puo_n))
theorem lf_3 : FLD "StrideTurns$Deed" "number" "I" 0 0 [3] := fld_c ⟨by decide, by decide⟩ (by decide) rfl (fun _ => rfl) rfl rfl (Or.inl rfl) (fld_n)
theorem lp_4 : PUO "StrideTurns$Deed" 0 [3] := puo_c (by decide) (Or.inr rfl) (puo_n)
theorem lf_5 : FLD "StrideTurns$Deed" "family" "I" 0 1 [3] := fld_c ⟨by decide, by decide⟩ (by decide) rfl (fun _ => rfl) rfl rfl (Or.inl rfl) (fld_n)
theorem lp_6 : PUO "StrideTurns$Deed" 1 [3] := puo_c (by decide) (Or.inr rfl) (puo_n)
theorem lf_7 : FLD "StrideTurns$Deed" "ints" "LStrideTurns$Ints;" 4 2 [3] := fld_c ⟨by decide, by decide⟩ (by decide) rfl (fun h => absurd h (by decide)) rfl rfl (Or.inl rfl) (fld_n)
theorem lp_8 : PUO "StrideTurns$Deed" 2 [3] := puo_c (by decide) (Or.inr rfl) (puo_n)
theorem lf_9 : FLD "StrideTurns$Deed" "floats" "LStrideTurns$Floats;" 4 3 [3] := fld_c ⟨by decide, by decide⟩ (by decide) rfl (fun h => absurd h (by decide)) rfl rfl (Or.inl rfl) (fld_n)
theorem lp_10 : PUO "StrideTurns$Deed" 3 [3] := puo_c (by decide) (Or.inr rfl) (puo_n)
theorem lf_11 : FLD "StrideTurns$Deed" "doubles" "LStrideTurns$Doubles;" 4 4 [3] := fld_c ⟨by decide, by decide⟩ (by decide) rfl (fun h => absurd h (by decide)) rfl rfl (Or.inl rfl) (fld_n)
theorem lp_12 : PUO "StrideTurns$Deed" 4 [3] := puo_c (by decide) (Or.inr rfl) (puo_n)
theorem lc_13 : iI (ev_z 0 1) = (1 : Int32) := by decide +kernel
theorem lf_14 : FLD "java/lang/String" "coder" "B" 6 1 [15, 16] := fld_c ⟨by decide, by decide⟩ (by decide) rfl (fun h => absurd h (by decide)) rfl rfl (Or.inl rfl) (fld_c ⟨by decide, by decide⟩ (by decide) rfl (fun h => absurd h (by decide)) rfl rfl (Or.inl rfl) (fld_n))
theorem lg_15 : GKC "[B" [45] := gkc_c (Or.inr ⟨by decide, by decide⟩) (Or.inl (by decide +kernel)) (gkc_n)
theorem lb_16 : BKC "[B" [] := bkc_n
theorem ln_17 : npar "(I[BII)I" = some 4 := by decide +kernel
theorem lg_18 : GKC "[C" [] := gkc_n
theorem lb_19 : BKC "[C" [] := bkc_n
theorem ln_20 : npar "(I[CII)I" = some 4 := by decide +kernel
theorem lg_21 : GKC "[S" [46] := gkc_c (Or.inr ⟨by decide, by decide⟩) (Or.inl (by decide +kernel)) (gkc_n)
theorem lb_22 : BKC "[S" [] := bkc_n
theorem ln_23 : npar "(I[SII)I" = some 4 := by decide +kernel
theorem lg_24 : GKC "[I" [40] := gkc_c (Or.inr ⟨by decide, by decide⟩) (Or.inl (by decide +kernel)) (gkc_n)
theorem lb_25 : BKC "[I" [] := bkc_n
theorem ln_26 : npar "(I[III)I" = some 4 := by decide +kernel
theorem ln_27 : npar "(Ljava/lang/Object;IIII)I" = some 5 := by decide +kernel
theorem lf_28 : FLD "java/lang/String" "hash" "I" 0 2 [15, 16] := fld_c ⟨by decide, by decide⟩ (by decide) rfl (fun _ => rfl) rfl rfl (Or.inl rfl) (fld_c ⟨by decide, by decide⟩ (by decide) rfl (fun _ => rfl) rfl rfl (Or.inl rfl) (fld_n))
theorem lf_29 : FLD "java/lang/String" "hashIsZero" "Z" 5 3 [15, 16] := fld_c ⟨by decide, by decide⟩ (by decide) rfl (fun h => absurd h (by decide)) rfl rfl (Or.inl rfl) (fld_c ⟨by decide, by decide⟩ (by decide) rfl (fun h => absurd h (by decide)) rfl rfl (Or.inl rfl) (fld_n))
theorem ln_30 : npar "()Z" = some 0 := by decide +kernel
theorem lf_31 : FLD "java/lang/String" "value" "[B" 4 0 [15, 16] := fld_c ⟨by decide, by decide⟩ (by decide) rfl (fun h => absurd h (by decide)) rfl rfl (Or.inl rfl) (fld_c ⟨by decide, by decide⟩ (by decide) rfl (fun h => absurd h (by decide)) rfl rfl (Or.inl rfl) (fld_n))
theorem ln_32 : npar "([B)I" = some 1 := by decide +kernel
theorem lf_33 : FLD "java/lang/String" "hashIsZero" "Z" 5 3 [15] := fld_c ⟨by decide, by decide⟩ (by decide) rfl (fun h => absurd h (by decide)) rfl rfl (Or.inl rfl) (fld_n)
theorem lp_34 : PUF 3 [15] := puf_c (by decide) rfl (puf_n)
theorem lf_35 : FLD "java/lang/String" "hash" "I" 0 2 [15] := fld_c ⟨by decide, by decide⟩ (by decide) rfl (fun _ => rfl) rfl rfl (Or.inl rfl) (fld_n)
theorem lp_36 : PUF 2 [15] := puf_c (by decide) rfl (puf_n)
theorem lf_37 : FLD "StrideTurns$Section" "stride" "I" 0 1 [7] := fld_c ⟨by decide, by decide⟩ (by decide) rfl (fun _ => rfl) rfl rfl (Or.inl rfl) (fld_n)
theorem lf_38 : FLD "StrideTurns$Section" "many" "I" 0 2 [7] := fld_c ⟨by decide, by decide⟩ (by decide) rfl (fun _ => rfl) rfl rfl (Or.inl rfl) (fld_n)
theorem lf_39 : FLD "StrideTurns$Section" "first" "I" 0 0 [7] := fld_c ⟨by decide, by decide⟩ (by decide) rfl (fun _ => rfl) rfl rfl (Or.inl rfl) (fld_n)
theorem ln_40 : npar "()I" = some 0 := by decide +kernel
theorem lv_41 : noVH "java/lang/Object" := ⟨by decide +kernel, by decide +kernel⟩
theorem lf_42 : FLD "java/util/HashMap" "table" "[Ljava/util/HashMap$Node;" 4 2 [11, 12] := fld_c ⟨by decide, by decide⟩ (by decide) rfl (fun h => absurd h (by decide)) rfl rfl (Or.inl rfl) (fld_c ⟨by decide, by decide⟩ (by decide) rfl (fun h => absurd h (by decide)) rfl rfl (Or.inl rfl) (fld_n))
theorem lf_43 : FLD "java/util/HashMap" "threshold" "I" 0 6 [11, 12] := fld_c ⟨by decide, by decide⟩ (by decide) rfl (fun _ => rfl) rfl rfl (Or.inl rfl) (fld_c ⟨by decide, by decide⟩ (by decide) rfl (fun _ => rfl) rfl rfl (Or.inl rfl) (fld_n))
theorem lc_44 : iI (ev_z 0 1073741824) = (1073741824 : Int32) := by decide +kernel
theorem lc_45 : iI (ev_z 0 2147483647) = (2147483647 : Int32) := by decide +kernel
theorem lp_46 : PUF 6 [11, 12] := puf_c (by decide) rfl (puf_c (by decide) rfl (puf_n))
theorem lp_47 : PUF 2 [11, 12] := puf_c (by decide) rfl (puf_c (by decide) rfl (puf_n))
theorem lf_48 : FLD "java/util/HashMap$Node" "next" "Ljava/util/HashMap$Node;" 4 3 [13, 14] := fld_c ⟨by decide, by decide⟩ (by decide) rfl (fun h => absurd h (by decide)) rfl rfl (Or.inl rfl) (fld_c ⟨by decide, by decide⟩ (by decide) rfl (fun h => absurd h (by decide)) rfl rfl (Or.inl rfl) (fld_n))
theorem lf_49 : FLD "java/util/HashMap$Node" "hash" "I" 0 0 [13, 14] := fld_c ⟨by decide, by decide⟩ (by decide) rfl (fun _ => rfl) rfl rfl (Or.inl rfl) (fld_c ⟨by decide, by decide⟩ (by decide) rfl (fun _ => rfl) rfl rfl (Or.inl rfl) (fld_n))
theorem lg_50 : GKC "java/util/HashMap$TreeNode" [] := gkc_n
theorem lb_51 : BKC "java/util/HashMap$TreeNode" [13, 14] := bkc_c (Or.inl ⟨by decide, by decide⟩) (List.mem_of_getElem? (i := 0) rfl) (bkc_c (Or.inl ⟨by decide, by decide⟩) (List.mem_of_getElem? (i := 1) rfl) (bkc_n))
theorem lb_52 : BKC "java/util/HashMap$TreeNode" [] := bkc_n
theorem lp_53 : PUF 3 [13, 14] := puf_c (by decide) rfl (puf_c (by decide) rfl (puf_n))
theorem lp_54 : PUO "java/util/HashMap$Node" 0 [13, 14] := puo_c (by decide) (Or.inr rfl) (puo_c (by decide) (Or.inr rfl) (puo_n))
theorem lf_55 : FLD "java/util/HashMap$Node" "key" "Ljava/lang/Object;" 4 1 [13, 14] := fld_c ⟨by decide, by decide⟩ (by decide) rfl (fun h => absurd h (by decide)) rfl rfl (Or.inl rfl) (fld_c ⟨by decide, by decide⟩ (by decide) rfl (fun h => absurd h (by decide)) rfl rfl (Or.inl rfl) (fld_n))
theorem lp_56 : PUO "java/util/HashMap$Node" 1 [13, 14] := puo_c (by decide) (Or.inr rfl) (puo_c (by decide) (Or.inr rfl) (puo_n))
theorem lf_57 : FLD "java/util/HashMap$Node" "value" "Ljava/lang/Object;" 4 2 [13, 14] := fld_c ⟨by decide, by decide⟩ (by decide) rfl (fun h => absurd h (by decide)) rfl rfl (Or.inl rfl) (fld_c ⟨by decide, by decide⟩ (by decide) rfl (fun h => absurd h (by decide)) rfl rfl (Or.inl rfl) (fld_n))
theorem lp_58 : PUF 2 [13, 14] := puf_c (by decide) rfl (puf_c (by decide) rfl (puf_n))
theorem ln_59 : npar "(ILjava/lang/Object;Ljava/lang/Object;Ljava/util/HashMap$Node;)V" = some 4 := by decide +kernel
theorem lf_60 : FLD "java/util/LinkedHashMap" "putMode" "I" 0 11 [12] := fld_c ⟨by decide, by decide⟩ (by decide) rfl (fun _ => rfl) rfl rfl (Or.inl rfl) (fld_n)
theorem lf_61 : FLD "java/util/LinkedHashMap" "head" "Ljava/util/LinkedHashMap$Entry;" 4 8 [12] := fld_c ⟨by decide, by decide⟩ (by decide) rfl (fun h => absurd h (by decide)) rfl rfl (Or.inl rfl) (fld_n)
theorem lp_62 : PUF 8 [12] := puf_c (by decide) rfl (puf_n)
theorem lf_63 : FLD "java/util/LinkedHashMap" "tail" "Ljava/util/LinkedHashMap$Entry;" 4 9 [12] := fld_c ⟨by decide, by decide⟩ (by decide) rfl (fun h => absurd h (by decide)) rfl rfl (Or.inl rfl) (fld_n)
theorem lp_64 : PUF 9 [12] := puf_c (by decide) rfl (puf_n)
theorem lf_65 : FLD "java/util/LinkedHashMap$Entry" "after" "Ljava/util/LinkedHashMap$Entry;" 4 5 [14] := fld_c ⟨by decide, by decide⟩ (by decide) rfl (fun h => absurd h (by decide)) rfl rfl (Or.inl rfl) (fld_n)
theorem lp_66 : PUF 5 [14] := puf_c (by decide) rfl (puf_n)
theorem lf_67 : FLD "java/util/LinkedHashMap$Entry" "before" "Ljava/util/LinkedHashMap$Entry;" 4 4 [14] := fld_c ⟨by decide, by decide⟩ (by decide) rfl (fun h => absurd h (by decide)) rfl rfl (Or.inl rfl) (fld_n)
theorem lp_68 : PUF 4 [14] := puf_c (by decide) rfl (puf_n)
theorem ln_69 : npar "(Ljava/util/LinkedHashMap$Entry;)V" = some 1 := by decide +kernel
theorem lg_70 : GKC "java/lang/String" [15, 16] := gkc_c (Or.inl ⟨by decide, by decide⟩) (Or.inl rfl) (gkc_c (Or.inl ⟨by decide, by decide⟩) (Or.inl rfl) (gkc_n))
theorem lb_71 : BKC "java/lang/String" [] := bkc_n
theorem ln_72 : npar "([B[B)Z" = some 2 := by decide +kernel
theorem lg_73 : GKC "StrideTurns$Section" [7] := gkc_c (Or.inl ⟨by decide, by decide⟩) (Or.inl rfl) (gkc_n)
theorem lb_74 : BKC "StrideTurns$Section" [] := bkc_n
theorem ln_75 : npar "()[Ljava/util/HashMap$Node;" = some 0 := by decide +kernel
theorem lf_76 : FLD "java/util/LinkedHashMap" "accessOrder" "Z" 5 10 [12] := fld_c ⟨by decide, by decide⟩ (by decide) rfl (fun h => absurd h (by decide)) rfl rfl (Or.inl rfl) (fld_n)
theorem lg_77 : GKC "java/util/LinkedHashMap$Entry" [14] := gkc_c (Or.inl ⟨by decide, by decide⟩) (Or.inl rfl) (gkc_n)
theorem lb_78 : BKC "java/util/LinkedHashMap$Entry" [] := bkc_n
theorem lf_79 : FLD "java/util/LinkedHashMap" "modCount" "I" 0 5 [12] := fld_c ⟨by decide, by decide⟩ (by decide) rfl (fun _ => rfl) rfl rfl (Or.inr q211) (fld_n)
theorem lp_80 : PUF 5 [12] := puf_c (by decide) rfl (puf_n)
theorem ln_81 : npar "(Ljava/util/Map$Entry;)Z" = some 1 := by decide +kernel
theorem lf_82 : FLD "java/util/LinkedHashMap$Entry" "key" "Ljava/lang/Object;" 4 1 [14] := fld_c ⟨by decide, by decide⟩ (by decide) rfl (fun h => absurd h (by decide)) rfl rfl (Or.inr q436) (fld_n)
theorem ln_83 : npar "(ILjava/lang/Object;Ljava/lang/Object;Ljava/util/HashMap$Node;)Ljava/util/HashMap$Node;" = some 4 := by decide +kernel
theorem lv_84 : noVH "java/util/HashMap" := ⟨by decide +kernel, by decide +kernel⟩
theorem ln_85 : npar "(Ljava/lang/Object;)Z" = some 1 := by decide +kernel
theorem ln_86 : npar "([Ljava/util/HashMap$Node;I)V" = some 2 := by decide +kernel
theorem ln_87 : npar "(Ljava/util/HashMap$Node;)V" = some 1 := by decide +kernel
theorem lf_88 : FLD "java/util/HashMap" "modCount" "I" 0 5 [11, 12] := fld_c ⟨by decide, by decide⟩ (by decide) rfl (fun _ => rfl) rfl rfl (Or.inl rfl) (fld_c ⟨by decide, by decide⟩ (by decide) rfl (fun _ => rfl) rfl rfl (Or.inl rfl) (fld_n))
theorem lp_89 : PUF 5 [11, 12] := puf_c (by decide) rfl (puf_c (by decide) rfl (puf_n))
theorem lf_90 : FLD "java/util/HashMap" "size" "I" 0 4 [11, 12] := fld_c ⟨by decide, by decide⟩ (by decide) rfl (fun _ => rfl) rfl rfl (Or.inl rfl) (fld_c ⟨by decide, by decide⟩ (by decide) rfl (fun _ => rfl) rfl rfl (Or.inl rfl) (fld_n))
theorem lp_91 : PUF 4 [11, 12] := puf_c (by decide) rfl (puf_c (by decide) rfl (puf_n))
theorem ln_92 : npar "(Z)V" = some 1 := by decide +kernel
theorem ln_93 : npar "(Ljava/lang/Object;)I" = some 1 := by decide +kernel
theorem ln_94 : npar "(ILjava/lang/Object;Ljava/lang/Object;ZZ)Ljava/lang/Object;" = some 5 := by decide +kernel
theorem ln_95 : npar "(Ljava/lang/Object;Ljava/lang/Object;)Ljava/lang/Object;" = some 2 := by decide +kernel
theorem ln_96 : npar "(IILStrideTurns$Ints;LStrideTurns$Floats;LStrideTurns$Doubles;)V" = some 5 := by decide +kernel
theorem ln_97 : npar "(Ljava/util/HashMap;Ljava/lang/String;LStrideTurns$Deed;)V" = some 3 := by decide +kernel
theorem lf_98 : FLD "java/util/AbstractList" "modCount" "I" 0 0 [18] := fld_c ⟨by decide, by decide⟩ (by decide) rfl (fun _ => rfl) rfl rfl (Or.inl rfl) (fld_n)
theorem lp_99 : PUF 0 [18] := puf_c (by decide) rfl (puf_n)
theorem lf_100 : FLD "java/util/ArrayList" "elementData" "[Ljava/lang/Object;" 4 1 [18] := fld_c ⟨by decide, by decide⟩ (by decide) rfl (fun h => absurd h (by decide)) rfl rfl (Or.inl rfl) (fld_n)
theorem lp_101 : PUF 1 [18] := puf_c (by decide) rfl (puf_n)
theorem lf_102 : FLD "java/util/ArrayDeque" "elements" "[Ljava/lang/Object;" 4 0 [19] := fld_c ⟨by decide, by decide⟩ (by decide) rfl (fun h => absurd h (by decide)) rfl rfl (Or.inl rfl) (fld_n)
theorem lp_103 : PUF 0 [19] := puf_c (by decide) rfl (puf_n)
theorem lf_104 : FLD "StrideTurns$Turn" "this$0" "LStrideTurns;" 4 6 [10] := fld_c ⟨by decide, by decide⟩ (by decide) rfl (fun h => absurd h (by decide)) rfl rfl (Or.inl rfl) (fld_n)
theorem lp_105 : PUO "StrideTurns$Turn" 6 [10] := puo_c (by decide) (Or.inr rfl) (puo_n)
theorem lf_106 : FLD "StrideTurns$Turn" "own" "[D" 4 0 [10] := fld_c ⟨by decide, by decide⟩ (by decide) rfl (fun h => absurd h (by decide)) rfl rfl (Or.inl rfl) (fld_n)
theorem lp_107 : PUO "StrideTurns$Turn" 0 [10] := puo_c (by decide) (Or.inr rfl) (puo_n)
theorem lf_108 : FLD "StrideTurns$Turn" "has" "[Z" 4 1 [10] := fld_c ⟨by decide, by decide⟩ (by decide) rfl (fun h => absurd h (by decide)) rfl rfl (Or.inl rfl) (fld_n)
theorem lp_109 : PUO "StrideTurns$Turn" 1 [10] := puo_c (by decide) (Or.inr rfl) (puo_n)
theorem ln_110 : npar "()Ljava/util/HashMap;" = some 0 := by decide +kernel
theorem lf_111 : FLD "StrideTurns" "names" "Ljava/util/HashMap;" 4 1 [1] := fld_c ⟨by decide, by decide⟩ (by decide) rfl (fun h => absurd h (by decide)) rfl rfl (Or.inl rfl) (fld_n)
theorem lp_112 : PUO "StrideTurns" 1 [1] := puo_c (by decide) (Or.inr rfl) (puo_n)
theorem lf_113 : FLD "StrideTurns" "rows" "[LStrideTurns$Row;" 4 2 [1] := fld_c ⟨by decide, by decide⟩ (by decide) rfl (fun h => absurd h (by decide)) rfl rfl (Or.inl rfl) (fld_n)
theorem lp_114 : PUO "StrideTurns" 2 [1] := puo_c (by decide) (Or.inr rfl) (puo_n)
theorem ln_115 : npar "(I)V" = some 1 := by decide +kernel
theorem lf_116 : FLD "StrideTurns" "statements" "Ljava/util/ArrayList;" 4 3 [1] := fld_c ⟨by decide, by decide⟩ (by decide) rfl (fun h => absurd h (by decide)) rfl rfl (Or.inl rfl) (fld_n)
theorem lp_117 : PUO "StrideTurns" 3 [1] := puo_c (by decide) (Or.inr rfl) (puo_n)
theorem lf_118 : FLD "StrideTurns" "past" "Ljava/util/ArrayDeque;" 4 5 [1] := fld_c ⟨by decide, by decide⟩ (by decide) rfl (fun h => absurd h (by decide)) rfl rfl (Or.inl rfl) (fld_n)
theorem lp_119 : PUO "StrideTurns" 5 [1] := puo_c (by decide) (Or.inr rfl) (puo_n)
theorem lf_120 : FLD "StrideTurns" "text" "[B" 4 6 [1] := fld_c ⟨by decide, by decide⟩ (by decide) rfl (fun h => absurd h (by decide)) rfl rfl (Or.inl rfl) (fld_n)
theorem lp_121 : PUO "StrideTurns" 6 [1] := puo_c (by decide) (Or.inr rfl) (puo_n)
theorem lf_122 : FLD "StrideTurns" "sets" "[J" 4 8 [1] := fld_c ⟨by decide, by decide⟩ (by decide) rfl (fun h => absurd h (by decide)) rfl rfl (Or.inl rfl) (fld_n)
theorem lp_123 : PUO "StrideTurns" 8 [1] := puo_c (by decide) (Or.inr rfl) (puo_n)
theorem lf_124 : FLD "StrideTurns" "firm" "[J" 4 9 [1] := fld_c ⟨by decide, by decide⟩ (by decide) rfl (fun h => absurd h (by decide)) rfl rfl (Or.inl rfl) (fld_n)
theorem lp_125 : PUO "StrideTurns" 9 [1] := puo_c (by decide) (Or.inr rfl) (puo_n)
theorem lf_126 : FLD "StrideTurns" "modes" "[I" 4 10 [1] := fld_c ⟨by decide, by decide⟩ (by decide) rfl (fun h => absurd h (by decide)) rfl rfl (Or.inl rfl) (fld_n)
theorem lp_127 : PUO "StrideTurns" 10 [1] := puo_c (by decide) (Or.inr rfl) (puo_n)
theorem lf_128 : FLD "StrideTurns" "ends" "[I" 4 11 [1] := fld_c ⟨by decide, by decide⟩ (by decide) rfl (fun h => absurd h (by decide)) rfl rfl (Or.inl rfl) (fld_n)
theorem lp_129 : PUO "StrideTurns" 11 [1] := puo_c (by decide) (Or.inr rfl) (puo_n)
theorem ln_130 : npar "(LStrideTurns;)V" = some 1 := by decide +kernel
theorem lf_131 : FLD "StrideTurns" "all" "[LStrideTurns$Turn;" 4 12 [1] := fld_c ⟨by decide, by decide⟩ (by decide) rfl (fun h => absurd h (by decide)) rfl rfl (Or.inl rfl) (fld_n)
theorem lp_132 : PUO "StrideTurns" 12 [1] := puo_c (by decide) (Or.inr rfl) (puo_n)
theorem lf_133 : FLD "StrideTurns" "order" "[I" 4 13 [1] := fld_c ⟨by decide, by decide⟩ (by decide) rfl (fun h => absurd h (by decide)) rfl rfl (Or.inl rfl) (fld_n)
theorem lp_134 : PUO "StrideTurns" 13 [1] := puo_c (by decide) (Or.inr rfl) (puo_n)
theorem lf_135 : FLD "StrideTurns" "lastEnds" "[I" 4 16 [1] := fld_c ⟨by decide, by decide⟩ (by decide) rfl (fun h => absurd h (by decide)) rfl rfl (Or.inl rfl) (fld_n)
theorem lp_136 : PUO "StrideTurns" 16 [1] := puo_c (by decide) (Or.inr rfl) (puo_n)
theorem lf_137 : FLD "StrideTurns" "lastOrder" "[I" 4 17 [1] := fld_c ⟨by decide, by decide⟩ (by decide) rfl (fun h => absurd h (by decide)) rfl rfl (Or.inl rfl) (fld_n)
theorem lp_138 : PUO "StrideTurns" 17 [1] := puo_c (by decide) (Or.inr rfl) (puo_n)
theorem lf_139 : FLD "StrideTurns" "kept" "[D" 4 20 [1] := fld_c ⟨by decide, by decide⟩ (by decide) rfl (fun h => absurd h (by decide)) rfl rfl (Or.inl rfl) (fld_n)
theorem lp_140 : PUO "StrideTurns" 20 [1] := puo_c (by decide) (Or.inr rfl) (puo_n)
theorem lf_141 : FLD "StrideTurns" "keptWriters" "[I" 4 21 [1] := fld_c ⟨by decide, by decide⟩ (by decide) rfl (fun h => absurd h (by decide)) rfl rfl (Or.inl rfl) (fld_n)
theorem lp_142 : PUO "StrideTurns" 21 [1] := puo_c (by decide) (Or.inr rfl) (puo_n)
theorem lf_143 : FLD "StrideTurns" "found" "[D" 4 22 [1] := fld_c ⟨by decide, by decide⟩ (by decide) rfl (fun h => absurd h (by decide)) rfl rfl (Or.inl rfl) (fld_n)
theorem lp_144 : PUO "StrideTurns" 22 [1] := puo_c (by decide) (Or.inr rfl) (puo_n)
theorem lf_145 : FLD "StrideTurnsModel" "forms" "[I" 4 0 [2] := fld_c ⟨by decide, by decide⟩ (by decide) rfl (fun h => absurd h (by decide)) rfl rfl (Or.inl rfl) (fld_n)
theorem lp_146 : PUO "StrideTurnsModel" 0 [2] := puo_c (by decide) (Or.inr rfl) (puo_n)
theorem lf_147 : FLD "StrideTurnsModel" "sizes" "[I" 4 1 [2] := fld_c ⟨by decide, by decide⟩ (by decide) rfl (fun h => absurd h (by decide)) rfl rfl (Or.inl rfl) (fld_n)
theorem lp_148 : PUO "StrideTurnsModel" 1 [2] := puo_c (by decide) (Or.inr rfl) (puo_n)
theorem lf_149 : FLD "StrideTurnsModel" "cells" "[D" 4 2 [2] := fld_c ⟨by decide, by decide⟩ (by decide) rfl (fun h => absurd h (by decide)) rfl rfl (Or.inl rfl) (fld_n)
theorem lp_150 : PUO "StrideTurnsModel" 2 [2] := puo_c (by decide) (Or.inr rfl) (puo_n)
theorem lf_151 : FLD "StrideTurnsModel" "writers" "[I" 4 3 [2] := fld_c ⟨by decide, by decide⟩ (by decide) rfl (fun h => absurd h (by decide)) rfl rfl (Or.inl rfl) (fld_n)
theorem lp_152 : PUO "StrideTurnsModel" 3 [2] := puo_c (by decide) (Or.inr rfl) (puo_n)
theorem lf_153 : FLD "StrideTurnsModel" "moved" "[D" 4 5 [2] := fld_c ⟨by decide, by decide⟩ (by decide) rfl (fun h => absurd h (by decide)) rfl rfl (Or.inl rfl) (fld_n)
theorem lp_154 : PUO "StrideTurnsModel" 5 [2] := puo_c (by decide) (Or.inr rfl) (puo_n)
theorem lf_155 : FLD "StrideTurnsModel" "operations" "[I" 4 8 [2] := fld_c ⟨by decide, by decide⟩ (by decide) rfl (fun h => absurd h (by decide)) rfl rfl (Or.inl rfl) (fld_n)
theorem lp_156 : PUO "StrideTurnsModel" 8 [2] := puo_c (by decide) (Or.inr rfl) (puo_n)
theorem lf_157 : FLD "StrideTurnsModel" "counts" "[I" 4 9 [2] := fld_c ⟨by decide, by decide⟩ (by decide) rfl (fun h => absurd h (by decide)) rfl rfl (Or.inl rfl) (fld_n)
theorem lp_158 : PUO "StrideTurnsModel" 9 [2] := puo_c (by decide) (Or.inr rfl) (puo_n)
theorem lf_159 : FLD "StrideTurnsModel" "periods" "[I" 4 10 [2] := fld_c ⟨by decide, by decide⟩ (by decide) rfl (fun h => absurd h (by decide)) rfl rfl (Or.inl rfl) (fld_n)
theorem lp_160 : PUO "StrideTurnsModel" 10 [2] := puo_c (by decide) (Or.inr rfl) (puo_n)
theorem lf_161 : FLD "StrideTurnsModel" "phases" "[I" 4 11 [2] := fld_c ⟨by decide, by decide⟩ (by decide) rfl (fun h => absurd h (by decide)) rfl rfl (Or.inl rfl) (fld_n)
theorem lp_162 : PUO "StrideTurnsModel" 11 [2] := puo_c (by decide) (Or.inr rfl) (puo_n)
theorem lf_163 : FLD "StrideTurnsModel" "masks" "[I" 4 12 [2] := fld_c ⟨by decide, by decide⟩ (by decide) rfl (fun h => absurd h (by decide)) rfl rfl (Or.inl rfl) (fld_n)
theorem lp_164 : PUO "StrideTurnsModel" 12 [2] := puo_c (by decide) (Or.inr rfl) (puo_n)
theorem lf_165 : FLD "StrideTurnsModel" "goals" "[I" 4 13 [2] := fld_c ⟨by decide, by decide⟩ (by decide) rfl (fun h => absurd h (by decide)) rfl rfl (Or.inl rfl) (fld_n)
theorem lp_166 : PUO "StrideTurnsModel" 13 [2] := puo_c (by decide) (Or.inr rfl) (puo_n)
theorem lf_167 : FLD "StrideTurnsModel" "froms" "[I" 4 14 [2] := fld_c ⟨by decide, by decide⟩ (by decide) rfl (fun h => absurd h (by decide)) rfl rfl (Or.inl rfl) (fld_n)
theorem lp_168 : PUO "StrideTurnsModel" 14 [2] := puo_c (by decide) (Or.inr rfl) (puo_n)
theorem lf_169 : FLD "StrideTurnsModel" "bys" "[I" 4 15 [2] := fld_c ⟨by decide, by decide⟩ (by decide) rfl (fun h => absurd h (by decide)) rfl rfl (Or.inl rfl) (fld_n)
theorem lp_170 : PUO "StrideTurnsModel" 15 [2] := puo_c (by decide) (Or.inr rfl) (puo_n)
theorem lf_171 : FLD "StrideTurnsModel" "steps" "[I" 4 16 [2] := fld_c ⟨by decide, by decide⟩ (by decide) rfl (fun h => absurd h (by decide)) rfl rfl (Or.inl rfl) (fld_n)
theorem lp_172 : PUO "StrideTurnsModel" 16 [2] := puo_c (by decide) (Or.inr rfl) (puo_n)
theorem lf_173 : FLD "StrideTurnsModel" "log" "[I" 4 17 [2] := fld_c ⟨by decide, by decide⟩ (by decide) rfl (fun h => absurd h (by decide)) rfl rfl (Or.inl rfl) (fld_n)
theorem lp_174 : PUO "StrideTurnsModel" 17 [2] := puo_c (by decide) (Or.inr rfl) (puo_n)
theorem lf_175 : FLD "StrideTurnsModel" "typed" "[I" 4 19 [2] := fld_c ⟨by decide, by decide⟩ (by decide) rfl (fun h => absurd h (by decide)) rfl rfl (Or.inl rfl) (fld_n)
theorem lp_176 : PUO "StrideTurnsModel" 19 [2] := puo_c (by decide) (Or.inr rfl) (puo_n)
theorem lf_177 : FLD "StrideTurnsModel" "kindsNow" "[I" 4 21 [2] := fld_c ⟨by decide, by decide⟩ (by decide) rfl (fun h => absurd h (by decide)) rfl rfl (Or.inl rfl) (fld_n)
theorem lp_178 : PUO "StrideTurnsModel" 21 [2] := puo_c (by decide) (Or.inr rfl) (puo_n)
theorem lf_179 : FLD "StrideTurnsModel" "sets" "[I" 4 23 [2] := fld_c ⟨by decide, by decide⟩ (by decide) rfl (fun h => absurd h (by decide)) rfl rfl (Or.inl rfl) (fld_n)
theorem lp_180 : PUO "StrideTurnsModel" 23 [2] := puo_c (by decide) (Or.inr rfl) (puo_n)
theorem lf_181 : FLD "StrideTurnsModel" "covered" "[I" 4 24 [2] := fld_c ⟨by decide, by decide⟩ (by decide) rfl (fun h => absurd h (by decide)) rfl rfl (Or.inl rfl) (fld_n)
theorem lp_182 : PUO "StrideTurnsModel" 24 [2] := puo_c (by decide) (Or.inr rfl) (puo_n)
theorem lf_183 : FLD "StrideTurnsModel" "verdicts" "[I" 4 29 [2] := fld_c ⟨by decide, by decide⟩ (by decide) rfl (fun h => absurd h (by decide)) rfl rfl (Or.inl rfl) (fld_n)
theorem lp_184 : PUO "StrideTurnsModel" 29 [2] := puo_c (by decide) (Or.inr rfl) (puo_n)
theorem lf_185 : FLD "StrideTurnsModel" "before" "[D" 4 30 [2] := fld_c ⟨by decide, by decide⟩ (by decide) rfl (fun h => absurd h (by decide)) rfl rfl (Or.inl rfl) (fld_n)
theorem lp_186 : PUO "StrideTurnsModel" 30 [2] := puo_c (by decide) (Or.inr rfl) (puo_n)
theorem lf_187 : FLD "StrideTurnsModel" "owns" "[D" 4 31 [2] := fld_c ⟨by decide, by decide⟩ (by decide) rfl (fun h => absurd h (by decide)) rfl rfl (Or.inl rfl) (fld_n)
theorem lp_188 : PUO "StrideTurnsModel" 31 [2] := puo_c (by decide) (Or.inr rfl) (puo_n)
theorem lf_189 : FLD "StrideTurnsModel" "hasOwn" "[Z" 4 32 [2] := fld_c ⟨by decide, by decide⟩ (by decide) rfl (fun h => absurd h (by decide)) rfl rfl (Or.inl rfl) (fld_n)
theorem lp_190 : PUO "StrideTurnsModel" 32 [2] := puo_c (by decide) (Or.inr rfl) (puo_n)
theorem lf_191 : FLD "StrideTurnsModel" "faultsNow" "[I" 4 35 [2] := fld_c ⟨by decide, by decide⟩ (by decide) rfl (fun h => absurd h (by decide)) rfl rfl (Or.inl rfl) (fld_n)
theorem lp_192 : PUO "StrideTurnsModel" 35 [2] := puo_c (by decide) (Or.inr rfl) (puo_n)
theorem lf_193 : FLD "StrideTurnsModel" "order" "[I" 4 36 [2] := fld_c ⟨by decide, by decide⟩ (by decide) rfl (fun h => absurd h (by decide)) rfl rfl (Or.inl rfl) (fld_n)
theorem lp_194 : PUO "StrideTurnsModel" 36 [2] := puo_c (by decide) (Or.inr rfl) (puo_n)
theorem lf_195 : FLD "StrideTurnsModel" "next" "[I" 4 40 [2] := fld_c ⟨by decide, by decide⟩ (by decide) rfl (fun h => absurd h (by decide)) rfl rfl (Or.inl rfl) (fld_n)
theorem lp_196 : PUO "StrideTurnsModel" 40 [2] := puo_c (by decide) (Or.inr rfl) (puo_n)
theorem lf_197 : FLD "StrideTurnsModel" "keptCells" "[D" 4 41 [2] := fld_c ⟨by decide, by decide⟩ (by decide) rfl (fun h => absurd h (by decide)) rfl rfl (Or.inl rfl) (fld_n)
theorem lp_198 : PUO "StrideTurnsModel" 41 [2] := puo_c (by decide) (Or.inr rfl) (puo_n)
theorem lf_199 : FLD "StrideTurnsModel" "inOrder" "[D" 4 42 [2] := fld_c ⟨by decide, by decide⟩ (by decide) rfl (fun h => absurd h (by decide)) rfl rfl (Or.inl rfl) (fld_n)
theorem lp_200 : PUO "StrideTurnsModel" 42 [2] := puo_c (by decide) (Or.inr rfl) (puo_n)
theorem lf_201 : FLD "StrideTurnsModel" "keptWriters" "[I" 4 43 [2] := fld_c ⟨by decide, by decide⟩ (by decide) rfl (fun h => absurd h (by decide)) rfl rfl (Or.inl rfl) (fld_n)
theorem lp_202 : PUO "StrideTurnsModel" 43 [2] := puo_c (by decide) (Or.inr rfl) (puo_n)
theorem lf_203 : FLD "StrideTurnsModel" "keptOrder" "[I" 4 44 [2] := fld_c ⟨by decide, by decide⟩ (by decide) rfl (fun h => absurd h (by decide)) rfl rfl (Or.inl rfl) (fld_n)
theorem lp_204 : PUO "StrideTurnsModel" 44 [2] := puo_c (by decide) (Or.inr rfl) (puo_n)
theorem lf_205 : FLD "StrideTurnsModel" "keptFaults" "[I" 4 45 [2] := fld_c ⟨by decide, by decide⟩ (by decide) rfl (fun h => absurd h (by decide)) rfl rfl (Or.inl rfl) (fld_n)
theorem lp_206 : PUO "StrideTurnsModel" 45 [2] := puo_c (by decide) (Or.inr rfl) (puo_n)
theorem lf_207 : FLD "StrideTurnsModel" "orderFaults" "[I" 4 46 [2] := fld_c ⟨by decide, by decide⟩ (by decide) rfl (fun h => absurd h (by decide)) rfl rfl (Or.inl rfl) (fld_n)
theorem lp_208 : PUO "StrideTurnsModel" 46 [2] := puo_c (by decide) (Or.inr rfl) (puo_n)
theorem lc_209 : lI (ev_z 0 5) = (5 : Int64) := by decide +kernel
theorem ln_210 : npar "(JJJ)Z" = some 3 := by decide +kernel
theorem lf_211 : FLD "StrideTurns$Row" "form" "I" 0 1 [4] := fld_c ⟨by decide, by decide⟩ (by decide) rfl (fun _ => rfl) rfl rfl (Or.inl rfl) (fld_n)
theorem lp_212 : PUO "StrideTurns$Row" 1 [4] := puo_c (by decide) (Or.inr rfl) (puo_n)
theorem ln_213 : npar "(II)Ljava/lang/Object;" = some 2 := by decide +kernel
theorem lf_214 : FLD "StrideTurns$Row" "cells" "Ljava/lang/Object;" 4 0 [4] := fld_c ⟨by decide, by decide⟩ (by decide) rfl (fun h => absurd h (by decide)) rfl rfl (Or.inl rfl) (fld_n)
theorem lp_215 : PUO "StrideTurns$Row" 0 [4] := puo_c (by decide) (Or.inr rfl) (puo_n)
theorem lf_216 : FLD "StrideTurns$Row" "size" "I" 0 2 [4] := fld_c ⟨by decide, by decide⟩ (by decide) rfl (fun _ => rfl) rfl rfl (Or.inl rfl) (fld_n)
theorem lp_217 : PUO "StrideTurns$Row" 2 [4] := puo_c (by decide) (Or.inr rfl) (puo_n)
theorem lf_218 : FLD "StrideTurns$Row" "writers" "[I" 4 3 [4] := fld_c ⟨by decide, by decide⟩ (by decide) rfl (fun h => absurd h (by decide)) rfl rfl (Or.inl rfl) (fld_n)
theorem lp_219 : PUO "StrideTurns$Row" 3 [4] := puo_c (by decide) (Or.inr rfl) (puo_n)
theorem lf_220 : FLD "StrideTurns" "latest" "I" 0 0 [1] := fld_c ⟨by decide, by decide⟩ (by decide) rfl (fun _ => rfl) rfl rfl (Or.inl rfl) (fld_n)
theorem lp_221 : PUF 0 [1] := puf_c (by decide) rfl (puf_n)
theorem ln_222 : npar "(I)Z" = some 1 := by decide +kernel
theorem lc_223 : lI (ev_z 0 4) = (4 : Int64) := by decide +kernel
theorem ln_224 : npar "(II)V" = some 2 := by decide +kernel
theorem ln_225 : npar "(I)I" = some 1 := by decide +kernel
theorem ln_226 : npar "(III)Z" = some 3 := by decide +kernel
theorem lf_227 : FLD "StrideTurnsModel" "finding" "I" 0 4 [2] := fld_c ⟨by decide, by decide⟩ (by decide) rfl (fun _ => rfl) rfl rfl (Or.inl rfl) (fld_n)
theorem lp_228 : PUF 4 [2] := puf_c (by decide) rfl (puf_n)
theorem lb_229 : BKC "[S" [40, 42, 43, 44] := bkc_c (Or.inr ⟨by decide, by decide⟩) (by rw [show knm 40 = "[I" from by decide +kernel]; exact List.mem_of_getElem? (i := 6) rfl) (bkc_c (Or.inr ⟨by decide, by decide⟩) (by rw [show knm 42 = "[F" from by decide +kernel]; exact List.mem_of_getElem? (i := 10) rfl) (bkc_c (Or.inr ⟨by decide, by decide⟩) (by rw [show knm 43 = "[D" from by decide +kernel]; exact List.mem_of_getElem? (i := 14) rfl) (bkc_c (Or.inr ⟨by decide, by decide⟩) (by rw [show knm 44 = "[Z" from by decide +kernel]; exact List.mem_of_getElem? (i := 18) rfl) (bkc_n))))
theorem lb_230 : BKC "[I" [46, 42, 43, 44] := bkc_c (Or.inr ⟨by decide, by decide⟩) (by rw [show knm 46 = "[S" from by decide +kernel]; exact List.mem_of_getElem? (i := 2) rfl) (bkc_c (Or.inr ⟨by decide, by decide⟩) (by rw [show knm 42 = "[F" from by decide +kernel]; exact List.mem_of_getElem? (i := 11) rfl) (bkc_c (Or.inr ⟨by decide, by decide⟩) (by rw [show knm 43 = "[D" from by decide +kernel]; exact List.mem_of_getElem? (i := 15) rfl) (bkc_c (Or.inr ⟨by decide, by decide⟩) (by rw [show knm 44 = "[Z" from by decide +kernel]; exact List.mem_of_getElem? (i := 19) rfl) (bkc_n))))
theorem lg_231 : GKC "[F" [42] := gkc_c (Or.inr ⟨by decide, by decide⟩) (Or.inl (by decide +kernel)) (gkc_n)
theorem lb_232 : BKC "[F" [46, 40, 43, 44] := bkc_c (Or.inr ⟨by decide, by decide⟩) (by rw [show knm 46 = "[S" from by decide +kernel]; exact List.mem_of_getElem? (i := 3) rfl) (bkc_c (Or.inr ⟨by decide, by decide⟩) (by rw [show knm 40 = "[I" from by decide +kernel]; exact List.mem_of_getElem? (i := 7) rfl) (bkc_c (Or.inr ⟨by decide, by decide⟩) (by rw [show knm 43 = "[D" from by decide +kernel]; exact List.mem_of_getElem? (i := 16) rfl) (bkc_c (Or.inr ⟨by decide, by decide⟩) (by rw [show knm 44 = "[Z" from by decide +kernel]; exact List.mem_of_getElem? (i := 20) rfl) (bkc_n))))
theorem lg_233 : GKC "[D" [43] := gkc_c (Or.inr ⟨by decide, by decide⟩) (Or.inl (by decide +kernel)) (gkc_n)
theorem lb_234 : BKC "[D" [46, 40, 42, 44] := bkc_c (Or.inr ⟨by decide, by decide⟩) (by rw [show knm 46 = "[S" from by decide +kernel]; exact List.mem_of_getElem? (i := 4) rfl) (bkc_c (Or.inr ⟨by decide, by decide⟩) (by rw [show knm 40 = "[I" from by decide +kernel]; exact List.mem_of_getElem? (i := 8) rfl) (bkc_c (Or.inr ⟨by decide, by decide⟩) (by rw [show knm 42 = "[F" from by decide +kernel]; exact List.mem_of_getElem? (i := 12) rfl) (bkc_c (Or.inr ⟨by decide, by decide⟩) (by rw [show knm 44 = "[Z" from by decide +kernel]; exact List.mem_of_getElem? (i := 21) rfl) (bkc_n))))
theorem lg_235 : GKC "[Z" [44] := gkc_c (Or.inr ⟨by decide, by decide⟩) (Or.inl (by decide +kernel)) (gkc_n)
theorem lb_236 : BKC "[Z" [46, 40, 42, 43] := bkc_c (Or.inr ⟨by decide, by decide⟩) (by rw [show knm 46 = "[S" from by decide +kernel]; exact List.mem_of_getElem? (i := 5) rfl) (bkc_c (Or.inr ⟨by decide, by decide⟩) (by rw [show knm 40 = "[I" from by decide +kernel]; exact List.mem_of_getElem? (i := 9) rfl) (bkc_c (Or.inr ⟨by decide, by decide⟩) (by rw [show knm 42 = "[F" from by decide +kernel]; exact List.mem_of_getElem? (i := 13) rfl) (bkc_c (Or.inr ⟨by decide, by decide⟩) (by rw [show knm 43 = "[D" from by decide +kernel]; exact List.mem_of_getElem? (i := 17) rfl) (bkc_n))))
theorem ln_237 : npar "(III)V" = some 3 := by decide +kernel
theorem lv_238 : noVH "StrideTurns$Row" := ⟨by decide +kernel, by decide +kernel⟩
theorem lc_239 : lI (ev_z 1 9223372036854775808) = (-9223372036854775808 : Int64) := by decide +kernel
theorem ln_240 : npar "(F)Z" = some 1 := by decide +kernel
theorem lc_241 : iI (ev_z 0 2143289344) = (2143289344 : Int32) := by decide +kernel
theorem ln_242 : npar "(D)Z" = some 1 := by decide +kernel
theorem lc_243 : lI (ev_z 0 9221120237041090560) = (9221120237041090560 : Int64) := by decide +kernel
theorem lb_244 : BKC "[F" [] := bkc_n
theorem ln_245 : npar "(F)I" = some 1 := by decide +kernel
theorem lb_246 : BKC "[D" [] := bkc_n
theorem ln_247 : npar "(D)J" = some 1 := by decide +kernel
theorem lb_248 : BKC "[Z" [] := bkc_n
theorem ln_249 : npar "(I)J" = some 1 := by decide +kernel
theorem ln_250 : npar "(DII)J" = some 3 := by decide +kernel
theorem lc_251 : iI (ev_z 1 2147483648) = (-2147483648 : Int32) := by decide +kernel
theorem ln_252 : npar "(II)I" = some 2 := by decide +kernel
theorem lf_253 : FLD "java/util/ArrayDeque" "tail" "I" 0 2 [19] := fld_c ⟨by decide, by decide⟩ (by decide) rfl (fun _ => rfl) rfl rfl (Or.inl rfl) (fld_n)
theorem lf_254 : FLD "java/util/ArrayDeque" "head" "I" 0 1 [19] := fld_c ⟨by decide, by decide⟩ (by decide) rfl (fun _ => rfl) rfl rfl (Or.inl rfl) (fld_n)
theorem ln_255 : npar "(III)I" = some 3 := by decide +kernel
theorem ln_256 : npar "([Ljava/lang/Object;I)Ljava/lang/Object;" = some 2 := by decide +kernel
theorem lp_257 : PUF 1 [19] := puf_c (by decide) rfl (puf_n)
theorem lf_258 : FLD "StrideTurns$Told" "act" "LStrideTurns$Act;" 4 0 [9] := fld_c ⟨by decide, by decide⟩ (by decide) rfl (fun h => absurd h (by decide)) rfl rfl (Or.inl rfl) (fld_n)
theorem lp_259 : PUO "StrideTurns$Told" 0 [9] := puo_c (by decide) (Or.inr rfl) (puo_n)
theorem lc_260 : iI (ev_z 0 2147483639) = (2147483639 : Int32) := by decide +kernel
theorem lg_261 : GKC "[Ljava/lang/Object;" [48] := gkc_c (Or.inr ⟨by decide, by decide⟩) (Or.inl (by decide +kernel)) (gkc_n)
theorem lb_262 : BKC "[Ljava/lang/Object;" [] := bkc_n
theorem ln_263 : npar "([Ljava/lang/Object;ILjava/lang/Class;)[Ljava/lang/Object;" = some 3 := by decide +kernel
theorem ln_264 : npar "([Ljava/lang/Object;I)[Ljava/lang/Object;" = some 2 := by decide +kernel
theorem lp_265 : PUF 2 [19] := puf_c (by decide) rfl (puf_n)
theorem ln_266 : npar "()Ljava/lang/Object;" = some 0 := by decide +kernel
theorem ln_267 : npar "(LStrideTurns$Act;)V" = some 1 := by decide +kernel
theorem ln_268 : npar "(Ljava/lang/Object;)V" = some 1 := by decide +kernel
theorem lc_269 : lI (ev_z 0 10) = (10 : Int64) := by decide +kernel
theorem lf_270 : FLD "StrideTurns" "n" "I" 0 4 [1] := fld_c ⟨by decide, by decide⟩ (by decide) rfl (fun _ => rfl) rfl rfl (Or.inl rfl) (fld_n)
theorem lp_271 : PUF 4 [1] := puf_c (by decide) rfl (puf_n)
theorem lf_272 : FLD "StrideTurnsModel" "logged" "I" 0 18 [2] := fld_c ⟨by decide, by decide⟩ (by decide) rfl (fun _ => rfl) rfl rfl (Or.inl rfl) (fld_n)
theorem lp_273 : PUF 18 [2] := puf_c (by decide) rfl (puf_n)
theorem lf_274 : FLD "StrideTurnsModel" "many" "I" 0 6 [2] := fld_c ⟨by decide, by decide⟩ (by decide) rfl (fun _ => rfl) rfl rfl (Or.inl rfl) (fld_n)
theorem ln_275 : npar "(IIIII)V" = some 5 := by decide +kernel
theorem lp_276 : PUF 6 [2] := puf_c (by decide) rfl (puf_n)
theorem lc_277 : lI (ev_z 0 255) = (255 : Int64) := by decide +kernel
theorem lf_278 : FLD "StrideTurns" "typed" "I" 0 7 [1] := fld_c ⟨by decide, by decide⟩ (by decide) rfl (fun _ => rfl) rfl rfl (Or.inl rfl) (fld_n)
theorem lp_279 : PUF 7 [1] := puf_c (by decide) rfl (puf_n)
theorem lf_280 : FLD "StrideTurnsModel" "typedMany" "I" 0 20 [2] := fld_c ⟨by decide, by decide⟩ (by decide) rfl (fun _ => rfl) rfl rfl (Or.inl rfl) (fld_n)
theorem lp_281 : PUF 20 [2] := puf_c (by decide) rfl (puf_n)
theorem lf_282 : FLD "java/lang/AbstractStringBuilder" "value" "[B" 4 0 [17] := fld_c ⟨by decide, by decide⟩ (by decide) rfl (fun h => absurd h (by decide)) rfl rfl (Or.inl rfl) (fld_n)
theorem lp_283 : PUF 0 [17] := puf_c (by decide) rfl (puf_n)
theorem lf_284 : FLD "java/lang/AbstractStringBuilder" "coder" "B" 6 1 [17] := fld_c ⟨by decide, by decide⟩ (by decide) rfl (fun h => absurd h (by decide)) rfl rfl (Or.inl rfl) (fld_n)
theorem lp_285 : PUF 1 [17] := puf_c (by decide) rfl (puf_n)
theorem ln_286 : npar "([BI)[B" = some 2 := by decide +kernel
theorem lf_287 : FLD "java/lang/AbstractStringBuilder" "count" "I" 0 3 [17] := fld_c ⟨by decide, by decide⟩ (by decide) rfl (fun _ => rfl) rfl rfl (Or.inl rfl) (fld_n)
theorem ln_288 : npar "(C)Z" = some 1 := by decide +kernel
theorem lp_289 : PUF 3 [17] := puf_c (by decide) rfl (puf_n)
theorem ln_290 : npar "(C)Ljava/lang/AbstractStringBuilder;" = some 1 := by decide +kernel
theorem ln_291 : npar "([BII)[B" = some 3 := by decide +kernel
theorem ln_292 : npar "()[B" = some 0 := by decide +kernel
theorem lv_293 : noVH "java/lang/AbstractStringBuilder" := ⟨by decide +kernel, by decide +kernel⟩
theorem lf_294 : FLD "java/lang/String" "coder" "B" 6 1 [15] := fld_c ⟨by decide, by decide⟩ (by decide) rfl (fun h => absurd h (by decide)) rfl rfl (Or.inl rfl) (fld_n)
theorem lp_295 : PUO "java/lang/String" 1 [15] := puo_c (by decide) (Or.inr rfl) (puo_n)
theorem lf_296 : FLD "java/lang/String" "value" "[B" 4 0 [15] := fld_c ⟨by decide, by decide⟩ (by decide) rfl (fun h => absurd h (by decide)) rfl rfl (Or.inl rfl) (fld_n)
theorem lp_297 : PUO "java/lang/String" 0 [15] := puo_c (by decide) (Or.inr rfl) (puo_n)
theorem lf_298 : FLD "java/lang/AbstractStringBuilder" "maybeLatin1" "Z" 5 2 [17] := fld_c ⟨by decide, by decide⟩ (by decide) rfl (fun h => absurd h (by decide)) rfl rfl (Or.inl rfl) (fld_n)
theorem ln_299 : npar "(Ljava/lang/AbstractStringBuilder;Ljava/lang/Void;)V" = some 2 := by decide +kernel
theorem ln_300 : npar "(Ljava/lang/StringBuilder;)V" = some 1 := by decide +kernel
theorem ln_301 : npar "(Ljava/lang/Object;)Ljava/util/HashMap$Node;" = some 1 := by decide +kernel
theorem ln_302 : npar "(C)Ljava/lang/StringBuilder;" = some 1 := by decide +kernel
theorem ln_303 : npar "()Ljava/lang/String;" = some 0 := by decide +kernel
theorem ln_304 : npar "(Ljava/lang/Object;)Ljava/lang/Object;" = some 1 := by decide +kernel
theorem lg_305 : GKC "StrideTurns$Deed" [3] := gkc_c (Or.inl ⟨by decide, by decide⟩) (Or.inl rfl) (gkc_n)
theorem lb_306 : BKC "StrideTurns$Deed" [] := bkc_n
theorem lf_307 : FLD "java/util/ArrayList" "size" "I" 0 2 [18] := fld_c ⟨by decide, by decide⟩ (by decide) rfl (fun _ => rfl) rfl rfl (Or.inl rfl) (fld_n)
theorem lf_308 : FLD "StrideTurns$Reference" "where" "LStrideTurns$Where;" 4 4 [6] := fld_c ⟨by decide, by decide⟩ (by decide) rfl (fun h => absurd h (by decide)) rfl rfl (Or.inl rfl) (fld_n)
theorem lp_309 : PUF 4 [6] := puf_c (by decide) rfl (puf_n)
theorem lf_310 : FLD "StrideTurns$Reference" "row" "I" 0 0 [6] := fld_c ⟨by decide, by decide⟩ (by decide) rfl (fun _ => rfl) rfl rfl (Or.inl rfl) (fld_n)
theorem lp_311 : PUF 0 [6] := puf_c (by decide) rfl (puf_n)
theorem lf_312 : FLD "StrideTurns$Statement" "this$0" "LStrideTurns;" 4 7 [5] := fld_c ⟨by decide, by decide⟩ (by decide) rfl (fun h => absurd h (by decide)) rfl rfl (Or.inl rfl) (fld_n)
theorem lp_313 : PUO "StrideTurns$Statement" 7 [5] := puo_c (by decide) (Or.inr rfl) (puo_n)
theorem lf_314 : FLD "StrideTurns$Statement" "references" "[LStrideTurns$Reference;" 4 2 [5] := fld_c ⟨by decide, by decide⟩ (by decide) rfl (fun h => absurd h (by decide)) rfl rfl (Or.inl rfl) (fld_n)
theorem lp_315 : PUO "StrideTurns$Statement" 2 [5] := puo_c (by decide) (Or.inr rfl) (puo_n)
theorem lf_316 : FLD "StrideTurns$Statement" "period" "I" 0 3 [5] := fld_c ⟨by decide, by decide⟩ (by decide) rfl (fun _ => rfl) rfl rfl (Or.inl rfl) (fld_n)
theorem lp_317 : PUF 3 [5] := puf_c (by decide) rfl (puf_n)
theorem lf_318 : FLD "StrideTurns$Statement" "mask" "I" 0 5 [5] := fld_c ⟨by decide, by decide⟩ (by decide) rfl (fun _ => rfl) rfl rfl (Or.inl rfl) (fld_n)
theorem lp_319 : PUF 5 [5] := puf_c (by decide) rfl (puf_n)
theorem lf_320 : FLD "StrideTurns$Statement" "when" "LStrideTurns$When;" 4 6 [5] := fld_c ⟨by decide, by decide⟩ (by decide) rfl (fun h => absurd h (by decide)) rfl rfl (Or.inl rfl) (fld_n)
theorem lp_321 : PUF 6 [5] := puf_c (by decide) rfl (puf_n)
theorem lf_322 : FLD "StrideTurns$Statement" "deed" "LStrideTurns$Deed;" 4 0 [5] := fld_c ⟨by decide, by decide⟩ (by decide) rfl (fun h => absurd h (by decide)) rfl rfl (Or.inl rfl) (fld_n)
theorem lp_323 : PUO "StrideTurns$Statement" 0 [5] := puo_c (by decide) (Or.inr rfl) (puo_n)
theorem lf_324 : FLD "StrideTurns$Statement" "count" "I" 0 1 [5] := fld_c ⟨by decide, by decide⟩ (by decide) rfl (fun _ => rfl) rfl rfl (Or.inl rfl) (fld_n)
theorem lp_325 : PUO "StrideTurns$Statement" 1 [5] := puo_c (by decide) (Or.inr rfl) (puo_n)
theorem ln_326 : npar "(I)[Ljava/lang/Object;" = some 1 := by decide +kernel
theorem ln_327 : npar "()[Ljava/lang/Object;" = some 0 := by decide +kernel
theorem lp_328 : PUF 2 [18] := puf_c (by decide) rfl (puf_n)
theorem lf_329 : FLD "java/util/ArrayList" "modCount" "I" 0 0 [18] := fld_c ⟨by decide, by decide⟩ (by decide) rfl (fun _ => rfl) rfl rfl (Or.inr q1046) (fld_n)
theorem ln_330 : npar "(Ljava/lang/Object;[Ljava/lang/Object;I)V" = some 3 := by decide +kernel
theorem ln_331 : npar "()LStrideTurns$Deed;" = some 0 := by decide +kernel
theorem ln_332 : npar "(LStrideTurns;LStrideTurns$Deed;I)V" = some 3 := by decide +kernel
theorem ln_333 : npar "(IIIII)Z" = some 5 := by decide +kernel
theorem lf_334 : FLD "StrideTurnsModel" "statements" "I" 0 7 [2] := fld_c ⟨by decide, by decide⟩ (by decide) rfl (fun _ => rfl) rfl rfl (Or.inl rfl) (fld_n)
theorem lp_335 : PUF 7 [2] := puf_c (by decide) rfl (puf_n)
theorem lc_336 : lI (ev_z 0 2) = (2 : Int64) := by decide +kernel
theorem ln_337 : npar "(IILjava/util/function/BiFunction;)I" = some 3 := by decide +kernel
theorem ln_338 : npar "(I)Ljava/lang/Object;" = some 1 := by decide +kernel
theorem ln_339 : npar "(II)Z" = some 2 := by decide +kernel
theorem lg_340 : GKC "StrideTurns$Statement" [5] := gkc_c (Or.inl ⟨by decide, by decide⟩) (Or.inl rfl) (gkc_n)
theorem lb_341 : BKC "StrideTurns$Statement" [] := bkc_n
theorem ln_342 : npar "(I)LStrideTurns$Reference;" = some 1 := by decide +kernel
theorem lf_343 : FLD "StrideTurns$Reference" "from" "I" 0 1 [6] := fld_c ⟨by decide, by decide⟩ (by decide) rfl (fun _ => rfl) rfl rfl (Or.inl rfl) (fld_n)
theorem lp_344 : PUF 1 [6] := puf_c (by decide) rfl (puf_n)
theorem lf_345 : FLD "StrideTurns$Reference" "by" "I" 0 2 [6] := fld_c ⟨by decide, by decide⟩ (by decide) rfl (fun _ => rfl) rfl rfl (Or.inl rfl) (fld_n)
theorem lp_346 : PUF 2 [6] := puf_c (by decide) rfl (puf_n)
theorem lf_347 : FLD "StrideTurns$Reference" "step" "I" 0 3 [6] := fld_c ⟨by decide, by decide⟩ (by decide) rfl (fun _ => rfl) rfl rfl (Or.inl rfl) (fld_n)
theorem lp_348 : PUF 3 [6] := puf_c (by decide) rfl (puf_n)
theorem lc_349 : lI (ev_z 1 60) = (-60 : Int64) := by decide +kernel
theorem lc_350 : lI (ev_z 0 60) = (60 : Int64) := by decide +kernel
theorem lc_351 : lI (ev_z 1 6) = (-6 : Int64) := by decide +kernel
theorem lc_352 : lI (ev_z 0 6) = (6 : Int64) := by decide +kernel
theorem lf_353 : FLD "StrideTurns$Statement" "phase" "I" 0 4 [5] := fld_c ⟨by decide, by decide⟩ (by decide) rfl (fun _ => rfl) rfl rfl (Or.inl rfl) (fld_n)
theorem lp_354 : PUF 4 [5] := puf_c (by decide) rfl (puf_n)
theorem lc_355 : lI (ev_z 1 1) = (-1 : Int64) := by decide +kernel
theorem ln_356 : npar "([Ljava/lang/Object;I)V" = some 2 := by decide +kernel
theorem lg_357 : GKC "StrideTurns$Told" [9] := gkc_c (Or.inl ⟨by decide, by decide⟩) (Or.inl rfl) (gkc_n)
theorem lb_358 : BKC "StrideTurns$Told" [] := bkc_n
theorem ln_359 : npar "(LStrideTurns$Statement;I)I" = some 2 := by decide +kernel
theorem ll_360 : LLi 39 tX0_lambda_mask_5 := ⟨by decide +kernel, rfl, rfl, rfl, Or.inl ⟨rfl, q1823, ln_359⟩⟩
theorem ll_361 : LL2 ⟨"StrideTurns$Act", "back", "()I"⟩ 0 0 39 := ⟨rfl, rfl, by decide +kernel, rfl, by decide +kernel⟩
theorem ln_362 : npar "(LStrideTurns$Statement;II)I" = some 3 := by decide +kernel
theorem ll_363 : LLi 38 tX0_lambda_guard_4 := ⟨by decide +kernel, rfl, rfl, rfl, Or.inl ⟨rfl, q1816, ln_362⟩⟩
theorem ll_364 : LL2 ⟨"StrideTurns$Act", "back", "()I"⟩ 0 0 38 := ⟨rfl, rfl, by decide +kernel, rfl, by decide +kernel⟩
theorem ln_365 : npar "(LStrideTurns$Reference;III)I" = some 4 := by decide +kernel
theorem ll_366 : LLi 36 tX0_lambda_place_3 := ⟨by decide +kernel, rfl, rfl, rfl, Or.inl ⟨rfl, q1804, ln_365⟩⟩
theorem ll_367 : LL2 ⟨"StrideTurns$Act", "back", "()I"⟩ 0 0 36 := ⟨rfl, rfl, by decide +kernel, rfl, by decide +kernel⟩
theorem ln_368 : npar "(LStrideTurns$Reference;I)I" = some 2 := by decide +kernel
theorem ll_369 : LLi 34 tX0_lambda_refer_2 := ⟨by decide +kernel, rfl, rfl, rfl, Or.inl ⟨rfl, q1788, ln_368⟩⟩
theorem ll_370 : LL2 ⟨"StrideTurns$Act", "back", "()I"⟩ 0 0 34 := ⟨rfl, rfl, by decide +kernel, rfl, by decide +kernel⟩
theorem ll_371 : LLi 33 tX0_lambda_statement_1 := ⟨by decide +kernel, rfl, rfl, rfl, Or.inr ⟨rfl, rfl, q1748, qs13, by decide, ⟨_, rfl⟩, 0, ln_40, rfl⟩⟩
theorem ll_372 : LL2 ⟨"StrideTurns$Act", "back", "()I"⟩ 0 0 33 := ⟨rfl, rfl, by decide +kernel, rfl, by decide +kernel⟩
theorem ll_373 : LLi 30 tX0_lambda_turns_0 := ⟨by decide +kernel, rfl, rfl, rfl, Or.inr ⟨rfl, rfl, q1387, qs5, by decide, ⟨_, rfl⟩, 1, ln_225, rfl⟩⟩
theorem ll_374 : LL2 ⟨"StrideTurns$Act", "back", "()I"⟩ 0 0 30 := ⟨rfl, rfl, by decide +kernel, rfl, by decide +kernel⟩
theorem ln_375 : npar "(LStrideTurns$Reference;)Z" = some 1 := by decide +kernel
theorem ln_376 : npar "(I)LStrideTurns$Row;" = some 1 := by decide +kernel
theorem lc_377 : lI (ev_z 0 3) = (3 : Int64) := by decide +kernel
theorem ll_378 : LLi 37 tX6_lambda_waits_1 := ⟨by decide +kernel, rfl, rfl, rfl, Or.inl ⟨rfl, q1814, ln_226⟩⟩
theorem ll_379 : LL2 ⟨"StrideTurns$When", "is", "(I)Z"⟩ 1 0 37 := ⟨rfl, rfl, by decide +kernel, rfl, by decide +kernel⟩
theorem ll_380 : LLi 32 tX6_lambda_new_0 := ⟨by decide +kernel, rfl, rfl, rfl, Or.inl ⟨rfl, q1692, ln_222⟩⟩
theorem ll_381 : LL2 ⟨"StrideTurns$When", "is", "(I)Z"⟩ 1 0 32 := ⟨rfl, rfl, by decide +kernel, rfl, by decide +kernel⟩
theorem lp_382 : PUO "StrideTurns$Section" 0 [7] := puo_c (by decide) (Or.inr rfl) (puo_n)
theorem lp_383 : PUO "StrideTurns$Section" 1 [7] := puo_c (by decide) (Or.inr rfl) (puo_n)
theorem lp_384 : PUO "StrideTurns$Section" 2 [7] := puo_c (by decide) (Or.inr rfl) (puo_n)
theorem ln_385 : npar "(IIIII)I" = some 5 := by decide +kernel
theorem ll_386 : LLi 35 tX7_lambda_moves_1 := ⟨by decide +kernel, rfl, rfl, rfl, Or.inl ⟨rfl, q1802, ln_385⟩⟩
theorem ll_387 : LL2 ⟨"StrideTurns$Where", "at", "(II)I"⟩ 2 0 35 := ⟨rfl, rfl, by decide +kernel, rfl, by decide +kernel⟩
theorem ll_388 : LLi 31 tX7_lambda_new_0 := ⟨by decide +kernel, rfl, rfl, rfl, Or.inl ⟨rfl, q1664, ln_252⟩⟩
theorem ll_389 : LL2 ⟨"StrideTurns$Where", "at", "(II)I"⟩ 2 0 31 := ⟨rfl, rfl, by decide +kernel, rfl, by decide +kernel⟩
theorem ln_390 : npar "(LStrideTurns$Reference;II)LStrideTurns$Section;" = some 3 := by decide +kernel
theorem ln_391 : npar "(II)LStrideTurns$Section;" = some 2 := by decide +kernel
theorem ln_392 : npar "(LStrideTurns$Section;)LStrideTurns$Section;" = some 1 := by decide +kernel
theorem lp_393 : PUF 11 [12] := puf_c (by decide) rfl (puf_n)
theorem lp_394 : PUO "java/util/LinkedHashMap" 10 [12] := puo_c (by decide) (Or.inr rfl) (puo_n)
theorem lf_395 : FLD "StrideTurns$Tally" "section" "LStrideTurns$Section;" 4 0 [8] := fld_c ⟨by decide, by decide⟩ (by decide) rfl (fun h => absurd h (by decide)) rfl rfl (Or.inl rfl) (fld_n)
theorem lp_396 : PUO "StrideTurns$Tally" 0 [8] := puo_c (by decide) (Or.inr rfl) (puo_n)
theorem lg_397 : GKC "StrideTurns$Tally" [8] := gkc_c (Or.inl ⟨by decide, by decide⟩) (Or.inl rfl) (gkc_n)
theorem lb_398 : BKC "StrideTurns$Tally" [] := bkc_n
theorem ln_399 : npar "(LStrideTurns$Section;)V" = some 1 := by decide +kernel
theorem lf_400 : FLD "StrideTurns$Tally" "times" "I" 0 1 [8] := fld_c ⟨by decide, by decide⟩ (by decide) rfl (fun _ => rfl) rfl rfl (Or.inl rfl) (fld_n)
theorem lp_401 : PUF 1 [8] := puf_c (by decide) rfl (puf_n)
theorem ln_402 : npar "(II)Ljava/util/LinkedHashMap;" = some 2 := by decide +kernel
theorem lf_403 : FLD "StrideTurnsModel" "kindsMany" "I" 0 22 [2] := fld_c ⟨by decide, by decide⟩ (by decide) rfl (fun _ => rfl) rfl rfl (Or.inl rfl) (fld_n)
theorem lp_404 : PUF 22 [2] := puf_c (by decide) rfl (puf_n)
theorem lf_405 : FLD "java/util/LinkedHashMap$LinkedValues" "this$0" "Ljava/util/LinkedHashMap;" 4 1 [20] := fld_c ⟨by decide, by decide⟩ (by decide) rfl (fun h => absurd h (by decide)) rfl rfl (Or.inl rfl) (fld_n)
theorem lp_406 : PUO "java/util/LinkedHashMap$LinkedValues" 1 [20] := puo_c (by decide) (Or.inr rfl) (puo_n)
theorem lf_407 : FLD "java/util/LinkedHashMap$LinkedValues" "reversed" "Z" 5 0 [20] := fld_c ⟨by decide, by decide⟩ (by decide) rfl (fun h => absurd h (by decide)) rfl rfl (Or.inl rfl) (fld_n)
theorem lp_408 : PUO "java/util/LinkedHashMap$LinkedValues" 0 [20] := puo_c (by decide) (Or.inr rfl) (puo_n)
theorem lf_409 : FLD "java/util/LinkedHashMap" "values" "Ljava/util/Collection;" 4 1 [12] := fld_c ⟨by decide, by decide⟩ (by decide) rfl (fun h => absurd h (by decide)) rfl rfl (Or.inr q217) (fld_n)
theorem ln_410 : npar "(Ljava/util/LinkedHashMap;Z)V" = some 2 := by decide +kernel
theorem lp_411 : PUF 1 [12] := puf_c (by decide) rfl (puf_n)
theorem lg_412 : GKC "java/util/SequencedCollection" [] := gkc_n
theorem lb_413 : BKC "java/util/SequencedCollection" [] := bkc_n
theorem ln_414 : npar "()Ljava/util/SequencedCollection;" = some 0 := by decide +kernel
theorem lf_415 : FLD "java/util/LinkedHashMap$LinkedHashIterator" "this$0" "Ljava/util/LinkedHashMap;" 4 4 [21] := fld_c ⟨by decide, by decide⟩ (by decide) rfl (fun h => absurd h (by decide)) rfl rfl (Or.inl rfl) (fld_n)
theorem lp_416 : PUO "java/util/LinkedHashMap$LinkedHashIterator" 4 [21] := puo_c (by decide) (Or.inr rfl) (puo_n)
theorem lf_417 : FLD "java/util/LinkedHashMap$LinkedHashIterator" "reversed" "Z" 5 3 [21] := fld_c ⟨by decide, by decide⟩ (by decide) rfl (fun h => absurd h (by decide)) rfl rfl (Or.inl rfl) (fld_n)
theorem lp_418 : PUF 3 [21] := puf_c (by decide) rfl (puf_n)
theorem lf_419 : FLD "java/util/LinkedHashMap$LinkedHashIterator" "next" "Ljava/util/LinkedHashMap$Entry;" 4 0 [21] := fld_c ⟨by decide, by decide⟩ (by decide) rfl (fun h => absurd h (by decide)) rfl rfl (Or.inl rfl) (fld_n)
theorem lp_420 : PUF 0 [21] := puf_c (by decide) rfl (puf_n)
theorem lf_421 : FLD "java/util/LinkedHashMap$LinkedHashIterator" "expectedModCount" "I" 0 2 [21] := fld_c ⟨by decide, by decide⟩ (by decide) rfl (fun _ => rfl) rfl rfl (Or.inl rfl) (fld_n)
theorem lp_422 : PUF 2 [21] := puf_c (by decide) rfl (puf_n)
theorem lf_423 : FLD "java/util/LinkedHashMap$LinkedHashIterator" "current" "Ljava/util/LinkedHashMap$Entry;" 4 1 [21] := fld_c ⟨by decide, by decide⟩ (by decide) rfl (fun h => absurd h (by decide)) rfl rfl (Or.inl rfl) (fld_n)
theorem lp_424 : PUF 1 [21] := puf_c (by decide) rfl (puf_n)
theorem ln_425 : npar "()Ljava/util/LinkedHashMap$Entry;" = some 0 := by decide +kernel
theorem lv_426 : noVH "java/util/LinkedHashMap$LinkedHashIterator" := ⟨by decide +kernel, by decide +kernel⟩
theorem lf_427 : FLD "java/util/LinkedHashMap$Entry" "value" "Ljava/lang/Object;" 4 2 [14] := fld_c ⟨by decide, by decide⟩ (by decide) rfl (fun h => absurd h (by decide)) rfl rfl (Or.inr q440) (fld_n)
theorem ln_428 : npar "()Ljava/util/Collection;" = some 0 := by decide +kernel
theorem lv_429 : noVH "java/util/Collection" := ⟨by decide +kernel, by decide +kernel⟩
theorem ln_430 : npar "()Ljava/util/Iterator;" = some 0 := by decide +kernel
theorem lv_431 : noVH "java/util/Iterator" := ⟨by decide +kernel, by decide +kernel⟩
theorem ln_432 : npar "(Ljava/util/LinkedHashMap;I)LStrideTurns$Tally;" = some 2 := by decide +kernel
theorem ln_433 : npar "(LStrideTurns$Reference;II)J" = some 3 := by decide +kernel
theorem ln_434 : npar "(LStrideTurns$Statement;III)Z" = some 4 := by decide +kernel
theorem ln_435 : npar "(LStrideTurns$Reference;II)I" = some 3 := by decide +kernel
theorem ln_436 : npar "(LStrideTurns$Statement;III)V" = some 4 := by decide +kernel
theorem lc_437 : lI (ev_z 0 6148914691236517205) = (6148914691236517205 : Int64) := by decide +kernel
theorem lc_438 : lI (ev_z 0 3689348814741910323) = (3689348814741910323 : Int64) := by decide +kernel
theorem lc_439 : lI (ev_z 0 1085102592571150095) = (1085102592571150095 : Int64) := by decide +kernel
theorem ln_440 : npar "(III)J" = some 3 := by decide +kernel
theorem ln_441 : npar "(J)I" = some 1 := by decide +kernel
theorem lf_442 : FLD "StrideTurnsModel" "isRisky" "Z" 5 25 [2] := fld_c ⟨by decide, by decide⟩ (by decide) rfl (fun h => absurd h (by decide)) rfl rfl (Or.inl rfl) (fld_n)
theorem lp_443 : PUF 25 [2] := puf_c (by decide) rfl (puf_n)
theorem lc_444 : iI (ev_z 0 65536) = (65536 : Int32) := by decide +kernel
theorem ln_445 : npar "(J)LStrideTurns$Section;" = some 1 := by decide +kernel
theorem ln_446 : npar "(JLStrideTurns$Section;)J" = some 2 := by decide +kernel
theorem lf_447 : FLD "StrideTurnsModel" "pieceFirst" "I" 0 26 [2] := fld_c ⟨by decide, by decide⟩ (by decide) rfl (fun _ => rfl) rfl rfl (Or.inl rfl) (fld_n)
theorem lp_448 : PUF 26 [2] := puf_c (by decide) rfl (puf_n)
theorem lf_449 : FLD "StrideTurnsModel" "pieceStride" "I" 0 27 [2] := fld_c ⟨by decide, by decide⟩ (by decide) rfl (fun _ => rfl) rfl rfl (Or.inl rfl) (fld_n)
theorem lp_450 : PUF 27 [2] := puf_c (by decide) rfl (puf_n)
theorem lf_451 : FLD "StrideTurnsModel" "pieceMany" "I" 0 28 [2] := fld_c ⟨by decide, by decide⟩ (by decide) rfl (fun _ => rfl) rfl rfl (Or.inl rfl) (fld_n)
theorem lp_452 : PUF 28 [2] := puf_c (by decide) rfl (puf_n)
theorem ln_453 : npar "(IIII)I" = some 4 := by decide +kernel
theorem lc_454 : lI (ev_z 0 23) = (23 : Int64) := by decide +kernel
theorem lf_455 : FLD "StrideTurns$Turn" "item" "I" 0 4 [10] := fld_c ⟨by decide, by decide⟩ (by decide) rfl (fun _ => rfl) rfl rfl (Or.inl rfl) (fld_n)
theorem lp_456 : PUF 4 [10] := puf_c (by decide) rfl (puf_n)
theorem lf_457 : FLD "StrideTurns$Turn" "statement" "I" 0 3 [10] := fld_c ⟨by decide, by decide⟩ (by decide) rfl (fun _ => rfl) rfl rfl (Or.inl rfl) (fld_n)
theorem lp_458 : PUF 3 [10] := puf_c (by decide) rfl (puf_n)
theorem lf_459 : FLD "StrideTurns$Turn" "number" "I" 0 2 [10] := fld_c ⟨by decide, by decide⟩ (by decide) rfl (fun _ => rfl) rfl rfl (Or.inl rfl) (fld_n)
theorem lp_460 : PUF 2 [10] := puf_c (by decide) rfl (puf_n)
theorem lf_461 : FLD "StrideTurns$Turn" "isOver" "Z" 5 5 [10] := fld_c ⟨by decide, by decide⟩ (by decide) rfl (fun h => absurd h (by decide)) rfl rfl (Or.inl rfl) (fld_n)
theorem lp_462 : PUF 5 [10] := puf_c (by decide) rfl (puf_n)
theorem lf_463 : FLD "StrideTurns" "ended" "I" 0 14 [1] := fld_c ⟨by decide, by decide⟩ (by decide) rfl (fun _ => rfl) rfl rfl (Or.inl rfl) (fld_n)
theorem lp_464 : PUF 14 [1] := puf_c (by decide) rfl (puf_n)
theorem lf_465 : FLD "StrideTurns" "items" "I" 0 15 [1] := fld_c ⟨by decide, by decide⟩ (by decide) rfl (fun _ => rfl) rfl rfl (Or.inl rfl) (fld_n)
theorem lp_466 : PUF 15 [1] := puf_c (by decide) rfl (puf_n)
theorem ln_467 : npar "(LStrideTurns$Reference;)I" = some 1 := by decide +kernel
theorem ln_468 : npar "(I)D" = some 1 := by decide +kernel
theorem lc_469 : lI (ev_z 0 8) = (8 : Int64) := by decide +kernel
theorem ll_470 : LLi 29 tX1_product := ⟨by decide +kernel, rfl, rfl, rfl, Or.inl ⟨rfl, q1017, ln_252⟩⟩
theorem ll_471 : LL2 ⟨"StrideTurns$Ints", "on", "(II)I"⟩ 2 0 29 := ⟨rfl, rfl, by decide +kernel, rfl, by decide +kernel⟩
theorem ll_472 : LLi 28 tX1_sum := ⟨by decide +kernel, rfl, rfl, rfl, Or.inl ⟨rfl, q928, ln_252⟩⟩
theorem ll_473 : LL2 ⟨"StrideTurns$Ints", "on", "(II)I"⟩ 2 0 28 := ⟨rfl, rfl, by decide +kernel, rfl, by decide +kernel⟩
theorem ll_474 : LLi 25 tX1_lambda_all_21 := ⟨by decide +kernel, rfl, rfl, rfl, Or.inl ⟨rfl, q921, ln_252⟩⟩
theorem ll_475 : LL2 ⟨"StrideTurns$Ints", "on", "(II)I"⟩ 2 0 25 := ⟨rfl, rfl, by decide +kernel, rfl, by decide +kernel⟩
theorem ll_476 : LLi 22 tX1_lambda_all_18 := ⟨by decide +kernel, rfl, rfl, rfl, Or.inl ⟨rfl, q914, ln_252⟩⟩
theorem ll_477 : LL2 ⟨"StrideTurns$Ints", "on", "(II)I"⟩ 2 0 22 := ⟨rfl, rfl, by decide +kernel, rfl, by decide +kernel⟩
theorem ll_478 : LLi 21 tX1_lambda_all_17 := ⟨by decide +kernel, rfl, rfl, rfl, Or.inl ⟨rfl, q911, ln_252⟩⟩
theorem ll_479 : LL2 ⟨"StrideTurns$Ints", "on", "(II)I"⟩ 2 0 21 := ⟨rfl, rfl, by decide +kernel, rfl, by decide +kernel⟩
theorem ll_480 : LLi 20 tX1_lambda_all_16 := ⟨by decide +kernel, rfl, rfl, rfl, Or.inl ⟨rfl, q908, ln_252⟩⟩
theorem ll_481 : LL2 ⟨"StrideTurns$Ints", "on", "(II)I"⟩ 2 0 20 := ⟨rfl, rfl, by decide +kernel, rfl, by decide +kernel⟩
theorem ll_482 : LLi 19 tX1_lambda_all_15 := ⟨by decide +kernel, rfl, rfl, rfl, Or.inl ⟨rfl, q905, ln_252⟩⟩
theorem ll_483 : LL2 ⟨"StrideTurns$Ints", "on", "(II)I"⟩ 2 0 19 := ⟨rfl, rfl, by decide +kernel, rfl, by decide +kernel⟩
theorem ll_484 : LLi 16 tX1_lambda_all_12 := ⟨by decide +kernel, rfl, rfl, rfl, Or.inl ⟨rfl, q898, ln_252⟩⟩
theorem ll_485 : LL2 ⟨"StrideTurns$Ints", "on", "(II)I"⟩ 2 0 16 := ⟨rfl, rfl, by decide +kernel, rfl, by decide +kernel⟩
theorem ll_486 : LLi 13 tX1_lambda_all_9 := ⟨by decide +kernel, rfl, rfl, rfl, Or.inl ⟨rfl, q891, ln_252⟩⟩
theorem ll_487 : LL2 ⟨"StrideTurns$Ints", "on", "(II)I"⟩ 2 0 13 := ⟨rfl, rfl, by decide +kernel, rfl, by decide +kernel⟩
theorem ll_488 : LLi 10 tX1_rest := ⟨by decide +kernel, rfl, rfl, rfl, Or.inl ⟨rfl, q884, ln_252⟩⟩
theorem ll_489 : LL2 ⟨"StrideTurns$Ints", "on", "(II)I"⟩ 2 0 10 := ⟨rfl, rfl, by decide +kernel, rfl, by decide +kernel⟩
theorem ll_490 : LLi 7 tX1_lambda_all_6 := ⟨by decide +kernel, rfl, rfl, rfl, Or.inl ⟨rfl, q877, ln_252⟩⟩
theorem ll_491 : LL2 ⟨"StrideTurns$Ints", "on", "(II)I"⟩ 2 0 7 := ⟨rfl, rfl, by decide +kernel, rfl, by decide +kernel⟩
theorem ll_492 : LLi 4 tX1_lambda_all_3 := ⟨by decide +kernel, rfl, rfl, rfl, Or.inl ⟨rfl, q870, ln_252⟩⟩
theorem ll_493 : LL2 ⟨"StrideTurns$Ints", "on", "(II)I"⟩ 2 0 4 := ⟨rfl, rfl, by decide +kernel, rfl, by decide +kernel⟩
theorem ll_494 : LLi 1 tX1_lambda_all_0 := ⟨by decide +kernel, rfl, rfl, rfl, Or.inl ⟨rfl, q238, ln_252⟩⟩
theorem ll_495 : LL2 ⟨"StrideTurns$Ints", "on", "(II)I"⟩ 2 0 1 := ⟨rfl, rfl, by decide +kernel, rfl, by decide +kernel⟩
theorem ln_496 : npar "(FF)F" = some 2 := by decide +kernel
theorem ll_497 : LLi 26 tX1_lambda_all_22 := ⟨by decide +kernel, rfl, rfl, rfl, Or.inl ⟨rfl, q923, ln_496⟩⟩
theorem ll_498 : LL2 ⟨"StrideTurns$Floats", "on", "(FF)F"⟩ 2 2 26 := ⟨rfl, rfl, by decide +kernel, rfl, by decide +kernel⟩
theorem ll_499 : LLi 23 tX1_lambda_all_19 := ⟨by decide +kernel, rfl, rfl, rfl, Or.inl ⟨rfl, q916, ln_496⟩⟩
theorem ll_500 : LL2 ⟨"StrideTurns$Floats", "on", "(FF)F"⟩ 2 2 23 := ⟨rfl, rfl, by decide +kernel, rfl, by decide +kernel⟩
theorem ll_501 : LLi 17 tX1_lambda_all_13 := ⟨by decide +kernel, rfl, rfl, rfl, Or.inl ⟨rfl, q900, ln_496⟩⟩
theorem ll_502 : LL2 ⟨"StrideTurns$Floats", "on", "(FF)F"⟩ 2 2 17 := ⟨rfl, rfl, by decide +kernel, rfl, by decide +kernel⟩
theorem ll_503 : LLi 14 tX1_lambda_all_10 := ⟨by decide +kernel, rfl, rfl, rfl, Or.inl ⟨rfl, q893, ln_496⟩⟩
theorem ll_504 : LL2 ⟨"StrideTurns$Floats", "on", "(FF)F"⟩ 2 2 14 := ⟨rfl, rfl, by decide +kernel, rfl, by decide +kernel⟩
theorem ll_505 : LLi 11 tX1_restOf := ⟨by decide +kernel, rfl, rfl, rfl, Or.inl ⟨rfl, q886, ln_496⟩⟩
theorem ll_506 : LL2 ⟨"StrideTurns$Floats", "on", "(FF)F"⟩ 2 2 11 := ⟨rfl, rfl, by decide +kernel, rfl, by decide +kernel⟩
theorem ll_507 : LLi 8 tX1_lambda_all_7 := ⟨by decide +kernel, rfl, rfl, rfl, Or.inl ⟨rfl, q879, ln_496⟩⟩
theorem ll_508 : LL2 ⟨"StrideTurns$Floats", "on", "(FF)F"⟩ 2 2 8 := ⟨rfl, rfl, by decide +kernel, rfl, by decide +kernel⟩
theorem ll_509 : LLi 5 tX1_lambda_all_4 := ⟨by decide +kernel, rfl, rfl, rfl, Or.inl ⟨rfl, q872, ln_496⟩⟩
theorem ll_510 : LL2 ⟨"StrideTurns$Floats", "on", "(FF)F"⟩ 2 2 5 := ⟨rfl, rfl, by decide +kernel, rfl, by decide +kernel⟩
theorem ll_511 : LLi 2 tX1_lambda_all_1 := ⟨by decide +kernel, rfl, rfl, rfl, Or.inl ⟨rfl, q240, ln_496⟩⟩
theorem ll_512 : LL2 ⟨"StrideTurns$Floats", "on", "(FF)F"⟩ 2 2 2 := ⟨rfl, rfl, by decide +kernel, rfl, by decide +kernel⟩
theorem ln_513 : npar "(DD)D" = some 2 := by decide +kernel
theorem ll_514 : LLi 27 tX1_lambda_all_23 := ⟨by decide +kernel, rfl, rfl, rfl, Or.inl ⟨rfl, q925, ln_513⟩⟩
theorem ll_515 : LL2 ⟨"StrideTurns$Doubles", "on", "(DD)D"⟩ 2 3 27 := ⟨rfl, rfl, by decide +kernel, rfl, by decide +kernel⟩
theorem ll_516 : LLi 24 tX1_lambda_all_20 := ⟨by decide +kernel, rfl, rfl, rfl, Or.inl ⟨rfl, q918, ln_513⟩⟩
theorem ll_517 : LL2 ⟨"StrideTurns$Doubles", "on", "(DD)D"⟩ 2 3 24 := ⟨rfl, rfl, by decide +kernel, rfl, by decide +kernel⟩
theorem ll_518 : LLi 18 tX1_lambda_all_14 := ⟨by decide +kernel, rfl, rfl, rfl, Or.inl ⟨rfl, q902, ln_513⟩⟩
theorem ll_519 : LL2 ⟨"StrideTurns$Doubles", "on", "(DD)D"⟩ 2 3 18 := ⟨rfl, rfl, by decide +kernel, rfl, by decide +kernel⟩
theorem ll_520 : LLi 15 tX1_lambda_all_11 := ⟨by decide +kernel, rfl, rfl, rfl, Or.inl ⟨rfl, q895, ln_513⟩⟩
theorem ll_521 : LL2 ⟨"StrideTurns$Doubles", "on", "(DD)D"⟩ 2 3 15 := ⟨rfl, rfl, by decide +kernel, rfl, by decide +kernel⟩
theorem ll_522 : LLi 12 tX1_restIn := ⟨by decide +kernel, rfl, rfl, rfl, Or.inl ⟨rfl, q888, ln_513⟩⟩
theorem ll_523 : LL2 ⟨"StrideTurns$Doubles", "on", "(DD)D"⟩ 2 3 12 := ⟨rfl, rfl, by decide +kernel, rfl, by decide +kernel⟩
theorem ll_524 : LLi 9 tX1_lambda_all_8 := ⟨by decide +kernel, rfl, rfl, rfl, Or.inl ⟨rfl, q881, ln_513⟩⟩
theorem ll_525 : LL2 ⟨"StrideTurns$Doubles", "on", "(DD)D"⟩ 2 3 9 := ⟨rfl, rfl, by decide +kernel, rfl, by decide +kernel⟩
theorem ll_526 : LLi 6 tX1_lambda_all_5 := ⟨by decide +kernel, rfl, rfl, rfl, Or.inl ⟨rfl, q874, ln_513⟩⟩
theorem ll_527 : LL2 ⟨"StrideTurns$Doubles", "on", "(DD)D"⟩ 2 3 6 := ⟨rfl, rfl, by decide +kernel, rfl, by decide +kernel⟩
theorem ll_528 : LLi 3 tX1_lambda_all_2 := ⟨by decide +kernel, rfl, rfl, rfl, Or.inl ⟨rfl, q243, ln_513⟩⟩
theorem ll_529 : LL2 ⟨"StrideTurns$Doubles", "on", "(DD)D"⟩ 2 3 3 := ⟨rfl, rfl, by decide +kernel, rfl, by decide +kernel⟩
theorem ln_530 : npar "(LStrideTurns$Statement;)I" = some 1 := by decide +kernel
theorem ln_531 : npar "(LStrideTurns$Deed;IDD)D" = some 4 := by decide +kernel
theorem ln_532 : npar "(D)D" = some 1 := by decide +kernel
theorem ln_533 : npar "(ID)V" = some 2 := by decide +kernel
theorem ln_534 : npar "(LStrideTurns$Reference;)D" = some 1 := by decide +kernel
theorem ln_535 : npar "(LStrideTurns$Statement;D)V" = some 2 := by decide +kernel
theorem ln_536 : npar "(IDD)Z" = some 3 := by decide +kernel
theorem ln_537 : npar "(LStrideTurns$Reference;D)V" = some 2 := by decide +kernel
theorem ln_538 : npar "(LStrideTurns$Turn;)V" = some 1 := by decide +kernel
theorem lf_539 : FLD "StrideTurns" "lastEnded" "I" 0 18 [1] := fld_c ⟨by decide, by decide⟩ (by decide) rfl (fun _ => rfl) rfl rfl (Or.inl rfl) (fld_n)
theorem lp_540 : PUF 18 [1] := puf_c (by decide) rfl (puf_n)
theorem lf_541 : FLD "StrideTurns" "lastItems" "I" 0 19 [1] := fld_c ⟨by decide, by decide⟩ (by decide) rfl (fun _ => rfl) rfl rfl (Or.inl rfl) (fld_n)
theorem lp_542 : PUF 19 [1] := puf_c (by decide) rfl (puf_n)
theorem lf_543 : FLD "StrideTurnsModel" "items" "I" 0 34 [2] := fld_c ⟨by decide, by decide⟩ (by decide) rfl (fun _ => rfl) rfl rfl (Or.inl rfl) (fld_n)
theorem lp_544 : PUF 34 [2] := puf_c (by decide) rfl (puf_n)
theorem lf_545 : FLD "StrideTurnsModel" "orderMany" "I" 0 37 [2] := fld_c ⟨by decide, by decide⟩ (by decide) rfl (fun _ => rfl) rfl rfl (Or.inl rfl) (fld_n)
theorem lp_546 : PUF 37 [2] := puf_c (by decide) rfl (puf_n)
theorem lf_547 : FLD "StrideTurnsModel" "stopped" "I" 0 38 [2] := fld_c ⟨by decide, by decide⟩ (by decide) rfl (fun _ => rfl) rfl rfl (Or.inl rfl) (fld_n)
theorem lp_548 : PUF 38 [2] := puf_c (by decide) rfl (puf_n)
theorem lf_549 : FLD "StrideTurnsModel" "isMixed" "Z" 5 33 [2] := fld_c ⟨by decide, by decide⟩ (by decide) rfl (fun h => absurd h (by decide)) rfl rfl (Or.inl rfl) (fld_n)
theorem lc_550 : lI (ev_z 1 2147483648) = (-2147483648 : Int64) := by decide +kernel
theorem lc_551 : lI (ev_z 0 2147483647) = (2147483647 : Int64) := by decide +kernel
theorem lf_552 : FLD "StrideTurnsModel" "isKept" "Z" 5 39 [2] := fld_c ⟨by decide, by decide⟩ (by decide) rfl (fun h => absurd h (by decide)) rfl rfl (Or.inl rfl) (fld_n)
theorem lp_553 : PUF 39 [2] := puf_c (by decide) rfl (puf_n)
theorem ln_554 : npar "(J)Z" = some 1 := by decide +kernel
theorem ln_555 : npar "(IFF)F" = some 3 := by decide +kernel
theorem ln_556 : npar "(IDD)D" = some 3 := by decide +kernel
theorem ln_557 : npar "(III)D" = some 3 := by decide +kernel
theorem ln_558 : npar "(ID)D" = some 2 := by decide +kernel
theorem ln_559 : npar "(IID)V" = some 3 := by decide +kernel
theorem lp_560 : PUF 33 [2] := puf_c (by decide) rfl (puf_n)
theorem lc_561 : lI (ev_z 0 63) = (63 : Int64) := by decide +kernel
theorem ll_562 : LLi 41 tX0_lambda_dealOf_7 := ⟨by decide +kernel, rfl, rfl, rfl, Or.inl ⟨rfl, q2492, ln_252⟩⟩
theorem ll_563 : LL2 ⟨"StrideTurns$Deal", "worker", "(I)I"⟩ 1 0 41 := ⟨rfl, rfl, by decide +kernel, rfl, by decide +kernel⟩
theorem ll_564 : LLi 40 tX0_lambda_dealOf_6 := ⟨by decide +kernel, rfl, rfl, rfl, Or.inl ⟨rfl, q2490, ln_252⟩⟩
theorem ll_565 : LL2 ⟨"StrideTurns$Deal", "worker", "(I)I"⟩ 1 0 40 := ⟨rfl, rfl, by decide +kernel, rfl, by decide +kernel⟩
theorem ln_566 : npar "(I)LStrideTurns$Statement;" = some 1 := by decide +kernel
theorem ln_567 : npar "(IILStrideTurns$Turn;)V" = some 3 := by decide +kernel
theorem ln_568 : npar "(II)LStrideTurns$Deal;" = some 2 := by decide +kernel
theorem ln_569 : npar "(ILStrideTurns$Deal;Z)LStrideTurns$Turn;" = some 3 := by decide +kernel
theorem ln_570 : npar "(IIII)Z" = some 4 := by decide +kernel
theorem ln_571 : npar "([D)V" = some 1 := by decide +kernel
theorem lc_572 : lI (ev_z 0 9) = (9 : Int64) := by decide +kernel
theorem lc_573 : lI (ev_z 0 31) = (31 : Int64) := by decide +kernel
theorem lc_574 : lI (ev_z 0 17) = (17 : Int64) := by decide +kernel
theorem ln_575 : npar "(JI)J" = some 2 := by decide +kernel
theorem ln_576 : npar "(II)J" = some 2 := by decide +kernel
theorem ln_577 : npar "()J" = some 0 := by decide +kernel
theorem lv_578 : plainName "java/util/AbstractMap" = true := by decide +kernel
theorem lv_579 : noVH "java/util/AbstractMap" := ⟨by decide +kernel, by decide +kernel⟩
theorem lv_580 : plainName "java/util/HashMap" = true := by decide +kernel
theorem lv_581 : plainName "StrideTurns$Deed" = true := by decide +kernel
theorem lv_582 : noVH "StrideTurns$Deed" := ⟨by decide +kernel, by decide +kernel⟩
theorem lv_583 : plainName "java/lang/String" = true := by decide +kernel
theorem lv_584 : noVH "java/lang/String" := ⟨by decide +kernel, by decide +kernel⟩
theorem lv_585 : plainName "jdk/internal/util/ArraysSupport" = true := by decide +kernel
theorem lv_586 : noVH "jdk/internal/util/ArraysSupport" := ⟨by decide +kernel, by decide +kernel⟩
theorem lv_587 : plainName "java/lang/StringLatin1" = true := by decide +kernel
theorem lv_588 : noVH "java/lang/StringLatin1" := ⟨by decide +kernel, by decide +kernel⟩
theorem lv_589 : plainName "StrideTurns$Section" = true := by decide +kernel
theorem lv_590 : noVH "StrideTurns$Section" := ⟨by decide +kernel, by decide +kernel⟩
theorem lv_591 : plainName "java/util/HashMap$Node" = true := by decide +kernel
theorem lv_592 : noVH "java/util/HashMap$Node" := ⟨by decide +kernel, by decide +kernel⟩
theorem lv_593 : plainName "java/util/LinkedHashMap$Entry" = true := by decide +kernel
theorem lv_594 : noVH "java/util/LinkedHashMap$Entry" := ⟨by decide +kernel, by decide +kernel⟩
theorem lv_595 : plainName "java/util/LinkedHashMap" = true := by decide +kernel
theorem lv_596 : noVH "java/util/LinkedHashMap" := ⟨by decide +kernel, by decide +kernel⟩
theorem lv_597 : plainFor ⟨"java/lang/Object", "equals", "(Ljava/lang/Object;)Z"⟩ = true := by decide +kernel
theorem lv_598 : plainName "java/util/AbstractCollection" = true := by decide +kernel
theorem lv_599 : noVH "java/util/AbstractCollection" := ⟨by decide +kernel, by decide +kernel⟩
theorem lv_600 : plainName "java/util/AbstractList" = true := by decide +kernel
theorem lv_601 : noVH "java/util/AbstractList" := ⟨by decide +kernel, by decide +kernel⟩
theorem lv_602 : plainName "java/util/ArrayList" = true := by decide +kernel
theorem lv_603 : noVH "java/util/ArrayList" := ⟨by decide +kernel, by decide +kernel⟩
theorem lv_604 : plainName "java/util/ArrayDeque" = true := by decide +kernel
theorem lv_605 : noVH "java/util/ArrayDeque" := ⟨by decide +kernel, by decide +kernel⟩
theorem lv_606 : plainName "StrideTurns$Turn" = true := by decide +kernel
theorem lv_607 : noVH "StrideTurns$Turn" := ⟨by decide +kernel, by decide +kernel⟩
theorem lv_608 : plainName "StrideTurns" = true := by decide +kernel
theorem lv_609 : noVH "StrideTurns" := ⟨by decide +kernel, by decide +kernel⟩
theorem lv_610 : plainName "StrideTurnsModel" = true := by decide +kernel
theorem lv_611 : noVH "StrideTurnsModel" := ⟨by decide +kernel, by decide +kernel⟩
theorem lv_612 : plainName "StrideTurns$Row" = true := by decide +kernel
theorem lv_613 : plainFor ⟨"java/lang/Float", "isNaN", "(F)Z"⟩ = true := by decide +kernel
theorem lv_614 : noVH "java/lang/Float" := ⟨by decide +kernel, by decide +kernel⟩
theorem lv_615 : plainFor ⟨"java/lang/Float", "floatToIntBits", "(F)I"⟩ = true := by decide +kernel
theorem lv_616 : plainName "java/lang/Double" = true := by decide +kernel
theorem lv_617 : noVH "java/lang/Double" := ⟨by decide +kernel, by decide +kernel⟩
theorem lv_618 : plainName "StrideTurns$Told" = true := by decide +kernel
theorem lv_619 : noVH "StrideTurns$Told" := ⟨by decide +kernel, by decide +kernel⟩
theorem lv_620 : plainFor ⟨"java/lang/Math", "min", "(II)I"⟩ = true := by decide +kernel
theorem lv_621 : noVH "java/lang/Math" := ⟨by decide +kernel, by decide +kernel⟩
theorem lv_622 : plainName "java/util/Arrays" = true := by decide +kernel
theorem lv_623 : noVH "java/util/Arrays" := ⟨by decide +kernel, by decide +kernel⟩
theorem lv_624 : plainName "java/lang/AbstractStringBuilder" = true := by decide +kernel
theorem lv_625 : plainName "java/lang/StringBuilder" = true := by decide +kernel
theorem lv_626 : noVH "java/lang/StringBuilder" := ⟨by decide +kernel, by decide +kernel⟩
theorem lv_627 : plainFor ⟨"java/lang/Math", "max", "(II)I"⟩ = true := by decide +kernel
theorem lv_628 : plainName "StrideTurns$Reference" = true := by decide +kernel
theorem lv_629 : noVH "StrideTurns$Reference" := ⟨by decide +kernel, by decide +kernel⟩
theorem lv_630 : plainName "StrideTurns$Statement" = true := by decide +kernel
theorem lv_631 : noVH "StrideTurns$Statement" := ⟨by decide +kernel, by decide +kernel⟩
theorem lv_632 : plainName "jdk/internal/util/Preconditions" = true := by decide +kernel
theorem lv_633 : noVH "jdk/internal/util/Preconditions" := ⟨by decide +kernel, by decide +kernel⟩
theorem lv_634 : plainName "java/util/Objects" = true := by decide +kernel
theorem lv_635 : noVH "java/util/Objects" := ⟨by decide +kernel, by decide +kernel⟩
theorem lv_636 : plainFor ⟨"java/lang/Math", "abs", "(I)I"⟩ = true := by decide +kernel
theorem lv_637 : plainFor ⟨"java/lang/Math", "floorMod", "(II)I"⟩ = true := by decide +kernel
theorem lv_638 : plainName "StrideTurns$Tally" = true := by decide +kernel
theorem lv_639 : noVH "StrideTurns$Tally" := ⟨by decide +kernel, by decide +kernel⟩
theorem lv_640 : plainName "java/util/LinkedHashMap$LinkedValues" = true := by decide +kernel
theorem lv_641 : noVH "java/util/LinkedHashMap$LinkedValues" := ⟨by decide +kernel, by decide +kernel⟩
theorem lv_642 : plainName "java/util/LinkedHashMap$LinkedHashIterator" = true := by decide +kernel
theorem lv_643 : plainName "java/util/LinkedHashMap$LinkedValueIterator" = true := by decide +kernel
theorem lv_644 : noVH "java/util/LinkedHashMap$LinkedValueIterator" := ⟨by decide +kernel, by decide +kernel⟩
theorem lv_645 : plainName "java/lang/Long" = true := by decide +kernel
theorem lv_646 : noVH "java/lang/Long" := ⟨by decide +kernel, by decide +kernel⟩
theorem lv_647 : plainName "java/lang/Integer" = true := by decide +kernel
theorem lv_648 : noVH "java/lang/Integer" := ⟨by decide +kernel, by decide +kernel⟩
theorem lv_649 : plainFor ⟨"java/lang/Math", "addExact", "(II)I"⟩ = true := by decide +kernel
theorem lv_650 : plainFor ⟨"java/lang/Math", "multiplyExact", "(II)I"⟩ = true := by decide +kernel
theorem mok_J0_init : MOK tJ0_init := ⟨q205, q136, (plainFor_of_name lv_578), lv_579, by decide⟩
theorem mok_J1_init : MOK tJ1_init := ⟨q202, q137, (plainFor_of_name lv_580), lv_84, by decide⟩
theorem mok_X1_init : MOK tX1_init := ⟨q248, q135, (plainFor_of_name lv_581), lv_582, by decide⟩
theorem mok_J2_isLatin1 : MOK tJ2_isLatin1 := ⟨q315, q138, (plainFor_of_name lv_583), lv_584, by decide⟩
theorem mok_J4_signedHashCode : MOK tJ4_signedHashCode := ⟨q327, q140, (plainFor_of_name lv_585), lv_586, by decide⟩
theorem mok_J4_utf16hashCode : MOK tJ4_utf16hashCode := ⟨q330, q140, (plainFor_of_name lv_585), lv_586, by decide⟩
theorem mok_J4_hashCode : MOK tJ4_hashCode := ⟨q358, q140, (plainFor_of_name lv_585), lv_586, by decide⟩
theorem mok_J4_hashCode_2 : MOK tJ4_hashCode_2 := ⟨q361, q140, (plainFor_of_name lv_585), lv_586, by decide⟩
theorem mok_J4_hashCode_3 : MOK tJ4_hashCode_3 := ⟨q365, q140, (plainFor_of_name lv_585), lv_586, by decide⟩
theorem mok_J4_hashCode_4 : MOK tJ4_hashCode_4 := ⟨q369, q140, (plainFor_of_name lv_585), lv_586, by decide⟩
theorem mok_J4_vectorizedHashCode : MOK tJ4_vectorizedHashCode := ⟨q323, q140, (plainFor_of_name lv_585), lv_586, by decide⟩
theorem mok_J3_hashCode : MOK tJ3_hashCode := ⟨q320, q139, (plainFor_of_name lv_587), lv_588, by decide⟩
theorem mok_J2_hashCode : MOK tJ2_hashCode := ⟨q311, q138, (plainFor_of_name lv_583), lv_584, by decide⟩
theorem mok_X8_hashCode : MOK tX8_hashCode := ⟨q297, q179, (plainFor_of_name lv_589), lv_590, by decide⟩
theorem mok_J1_hash : MOK tJ1_hash := ⟨q286, q137, (plainFor_of_name lv_580), lv_84, by decide⟩
theorem mok_J1_resize : MOK tJ1_resize := ⟨q390, q137, (plainFor_of_name lv_580), lv_84, by decide⟩
theorem mok_J6_init : MOK tJ6_init := ⟨q420, q142, (plainFor_of_name lv_591), lv_592, by decide⟩
theorem mok_J1_newNode : MOK tJ1_newNode := ⟨q749, q137, (plainFor_of_name lv_580), lv_84, by decide⟩
theorem mok_J7_init : MOK tJ7_init := ⟨q417, q143, (plainFor_of_name lv_593), lv_594, by decide⟩
theorem mok_J34_linkNodeAtEnd : MOK tJ34_linkNodeAtEnd := ⟨q748, q180, (plainFor_of_name lv_595), lv_596, by decide⟩
theorem mok_J34_newNode : MOK tJ34_newNode := ⟨q744, q180, (plainFor_of_name lv_595), lv_596, by decide⟩
theorem mok_J40_equals : MOK tJ40_equals := ⟨q782, q3213, lv_597, lv_41, by decide⟩
theorem mok_J3_equals : MOK tJ3_equals := ⟨q778, q139, (plainFor_of_name lv_587), lv_588, by decide⟩
theorem mok_J2_equals : MOK tJ2_equals := ⟨q775, q138, (plainFor_of_name lv_583), lv_584, by decide⟩
theorem mok_X8_equals : MOK tX8_equals := ⟨q760, q179, (plainFor_of_name lv_589), lv_590, by decide⟩
theorem mok_J1_treeifyBin : MOK tJ1_treeifyBin := ⟨q839, q137, (plainFor_of_name lv_580), lv_84, by decide⟩
theorem mok_J1_afterNodeAccess : MOK tJ1_afterNodeAccess := ⟨q856, q137, (plainFor_of_name lv_580), lv_84, by decide⟩
theorem mok_J34_afterNodeAccess : MOK tJ34_afterNodeAccess := ⟨q855, q180, (plainFor_of_name lv_595), lv_596, by decide⟩
theorem mok_J1_afterNodeInsertion : MOK tJ1_afterNodeInsertion := ⟨q868, q137, (plainFor_of_name lv_580), lv_84, by decide⟩
theorem mok_J34_removeEldestEntry : MOK tJ34_removeEldestEntry := ⟨q867, q180, (plainFor_of_name lv_595), lv_596, by decide⟩
theorem mok_J34_afterNodeInsertion : MOK tJ34_afterNodeInsertion := ⟨q863, q180, (plainFor_of_name lv_595), lv_596, by decide⟩
theorem mok_J1_putVal : MOK tJ1_putVal := ⟨q384, q137, (plainFor_of_name lv_580), lv_84, by decide⟩
theorem mok_J1_put : MOK tJ1_put := ⟨q283, q137, (plainFor_of_name lv_580), lv_84, by decide⟩
theorem mok_X1_puts : MOK tX1_puts := ⟨q277, q135, (plainFor_of_name lv_581), lv_582, by decide⟩
theorem mok_X1_all : MOK tX1_all := ⟨q197, q135, (plainFor_of_name lv_581), lv_582, by decide⟩
theorem mok_J18_init : MOK tJ18_init := ⟨q1034, q156, (plainFor_of_name lv_598), lv_599, by decide⟩
theorem mok_J19_init : MOK tJ19_init := ⟨q1031, q157, (plainFor_of_name lv_600), lv_601, by decide⟩
theorem mok_J20_init : MOK tJ20_init := ⟨q1028, q158, (plainFor_of_name lv_602), lv_603, by decide⟩
theorem mok_J21_init : MOK tJ21_init := ⟨q1059, q159, (plainFor_of_name lv_604), lv_605, by decide⟩
theorem mok_X2_init : MOK tX2_init := ⟨q1079, q160, (plainFor_of_name lv_606), lv_607, by decide⟩
theorem mok_X0_init : MOK tX0_init := ⟨q191, q134, (plainFor_of_name lv_608), lv_609, by decide⟩
theorem mok_X3_init : MOK tX3_init := ⟨q2595, q161, (plainFor_of_name lv_610), lv_611, by decide⟩
theorem mok_X0_in : MOK tX0_in := ⟨q1215, q134, (plainFor_of_name lv_608), lv_609, by decide⟩
theorem mok_X0_isRow : MOK tX0_isRow := ⟨q1211, q134, (plainFor_of_name lv_608), lv_609, by decide⟩
theorem mok_X4_made : MOK tX4_made := ⟨q1224, q163, (plainFor_of_name lv_612), lv_238, by decide⟩
theorem mok_X4_init : MOK tX4_init := ⟨q1220, q163, (plainFor_of_name lv_612), lv_238, by decide⟩
theorem mok_X0_finds : MOK tX0_finds := ⟨q1249, q134, (plainFor_of_name lv_608), lv_609, by decide⟩
theorem mok_X0_row : MOK tX0_row := ⟨q1189, q134, (plainFor_of_name lv_608), lv_609, by decide⟩
theorem mok_X3_in : MOK tX3_in := ⟨q2748, q161, (plainFor_of_name lv_610), lv_611, by decide⟩
theorem mok_X3_isRow : MOK tX3_isRow := ⟨q2745, q161, (plainFor_of_name lv_610), lv_611, by decide⟩
theorem mok_X3_meets : MOK tX3_meets := ⟨q2752, q161, (plainFor_of_name lv_610), lv_611, by decide⟩
theorem mok_X3_row : MOK tX3_row := ⟨q2742, q161, (plainFor_of_name lv_610), lv_611, by decide⟩
theorem mok_X0_lose : MOK tX0_lose := ⟨q1253, q134, (plainFor_of_name lv_608), lv_609, by decide⟩
theorem mok_X3_lose : MOK tX3_lose := ⟨q2756, q161, (plainFor_of_name lv_610), lv_611, by decide⟩
theorem mok_X4_lays : MOK tX4_lays := ⟨q1319, q163, (plainFor_of_name lv_612), lv_238, by decide⟩
theorem mok_X0_put : MOK tX0_put := ⟨q1282, q134, (plainFor_of_name lv_608), lv_609, by decide⟩
theorem mok_X3_put : MOK tX3_put := ⟨q2760, q161, (plainFor_of_name lv_610), lv_611, by decide⟩
theorem mok_X0_no : MOK tX0_no := ⟨q1333, q134, (plainFor_of_name lv_608), lv_609, by decide⟩
theorem mok_J27_isNaN : MOK tJ27_isNaN := ⟨q1344, q168, lv_613, lv_614, by decide⟩
theorem mok_J27_floatToIntBits : MOK tJ27_floatToIntBits := ⟨q1341, q168, lv_615, lv_614, by decide⟩
theorem mok_J28_isNaN : MOK tJ28_isNaN := ⟨q1354, q169, (plainFor_of_name lv_616), lv_617, by decide⟩
theorem mok_J28_doubleToLongBits : MOK tJ28_doubleToLongBits := ⟨q1351, q169, (plainFor_of_name lv_616), lv_617, by decide⟩
theorem mok_X4_tells : MOK tX4_tells := ⟨q1338, q163, (plainFor_of_name lv_612), lv_238, by decide⟩
theorem mok_X0_get : MOK tX0_get := ⟨q1330, q134, (plainFor_of_name lv_608), lv_609, by decide⟩
theorem mok_X3_no : MOK tX3_no := ⟨q2769, q161, (plainFor_of_name lv_610), lv_611, by decide⟩
theorem mok_X3_lacks : MOK tX3_lacks := ⟨q2774, q161, (plainFor_of_name lv_610), lv_611, by decide⟩
theorem mok_X3_bitsOf : MOK tX3_bitsOf := ⟨q2781, q161, (plainFor_of_name lv_610), lv_611, by decide⟩
theorem mok_X3_toldOf : MOK tX3_toldOf := ⟨q2778, q161, (plainFor_of_name lv_610), lv_611, by decide⟩
theorem mok_X3_get : MOK tX3_get := ⟨q2766, q161, (plainFor_of_name lv_610), lv_611, by decide⟩
theorem mok_X0_copy : MOK tX0_copy := ⟨q1362, q134, (plainFor_of_name lv_608), lv_609, by decide⟩
theorem mok_X3_copy : MOK tX3_copy := ⟨q2787, q161, (plainFor_of_name lv_610), lv_611, by decide⟩
theorem mok_J21_sub : MOK tJ21_sub := ⟨q1399, q159, (plainFor_of_name lv_604), lv_605, by decide⟩
theorem mok_J21_size : MOK tJ21_size := ⟨q1396, q159, (plainFor_of_name lv_604), lv_605, by decide⟩
theorem mok_J21_elementAt : MOK tJ21_elementAt := ⟨q1406, q159, (plainFor_of_name lv_604), lv_605, by decide⟩
theorem mok_J21_inc : MOK tJ21_inc := ⟨q1409, q159, (plainFor_of_name lv_604), lv_605, by decide⟩
theorem mok_J21_pollFirst : MOK tJ21_pollFirst := ⟨q1403, q159, (plainFor_of_name lv_604), lv_605, by decide⟩
theorem mok_X5_init : MOK tX5_init := ⟨q1414, q172, (plainFor_of_name lv_618), lv_619, by decide⟩
theorem mok_J21_newCapacity : MOK tJ21_newCapacity := ⟨q1435, q159, (plainFor_of_name lv_604), lv_605, by decide⟩
theorem mok_J8_min : MOK tJ8_min := ⟨q550, q144, lv_620, lv_621, by decide⟩
theorem mok_J30_copyOf_2 : MOK tJ30_copyOf_2 := ⟨q1443, q173, (plainFor_of_name lv_622), lv_623, by decide⟩
theorem mok_J30_copyOf : MOK tJ30_copyOf := ⟨q1439, q173, (plainFor_of_name lv_622), lv_623, by decide⟩
theorem mok_J21_grow : MOK tJ21_grow := ⟨q1430, q159, (plainFor_of_name lv_604), lv_605, by decide⟩
theorem mok_J21_addLast : MOK tJ21_addLast := ⟨q1424, q159, (plainFor_of_name lv_604), lv_605, by decide⟩
theorem mok_X0_tells : MOK tX0_tells := ⟨q1392, q134, (plainFor_of_name lv_608), lv_609, by decide⟩
theorem mok_X0_turns : MOK tX0_turns := ⟨q1384, q134, (plainFor_of_name lv_608), lv_609, by decide⟩
theorem mok_X3_logs : MOK tX3_logs := ⟨q2795, q161, (plainFor_of_name lv_610), lv_611, by decide⟩
theorem mok_X3_turns : MOK tX3_turns := ⟨q2791, q161, (plainFor_of_name lv_610), lv_611, by decide⟩
theorem mok_X0_type : MOK tX0_type := ⟨q1452, q134, (plainFor_of_name lv_608), lv_609, by decide⟩
theorem mok_X3_type : MOK tX3_type := ⟨q2799, q161, (plainFor_of_name lv_610), lv_611, by decide⟩
theorem mok_X0_wipe : MOK tX0_wipe := ⟨q1457, q134, (plainFor_of_name lv_608), lv_609, by decide⟩
theorem mok_X3_wipe : MOK tX3_wipe := ⟨q2803, q161, (plainFor_of_name lv_610), lv_611, by decide⟩
theorem mok_J31_init : MOK tJ31_init := ⟨q1473, q174, (plainFor_of_name lv_624), lv_293, by decide⟩
theorem mok_J32_init : MOK tJ32_init := ⟨q1470, q175, (plainFor_of_name lv_625), lv_626, by decide⟩
theorem mok_J8_max : MOK tJ8_max := ⟨q1519, q144, lv_627, lv_621, by decide⟩
theorem mok_J4_hugeLength : MOK tJ4_hugeLength := ⟨q1523, q140, (plainFor_of_name lv_585), lv_586, by decide⟩
theorem mok_J4_newLength : MOK tJ4_newLength := ⟨q1516, q140, (plainFor_of_name lv_585), lv_586, by decide⟩
theorem mok_J31_newCapacity : MOK tJ31_newCapacity := ⟨q1513, q174, (plainFor_of_name lv_624), lv_293, by decide⟩
theorem mok_J30_copyOf_3 : MOK tJ30_copyOf_3 := ⟨q1527, q173, (plainFor_of_name lv_622), lv_623, by decide⟩
theorem mok_J31_ensureCapacityInternal : MOK tJ31_ensureCapacityInternal := ⟨q1509, q174, (plainFor_of_name lv_624), lv_293, by decide⟩
theorem mok_J31_isLatin1 : MOK tJ31_isLatin1 := ⟨q699, q174, (plainFor_of_name lv_624), lv_293, by decide⟩
theorem mok_J3_canEncode : MOK tJ3_canEncode := ⟨q1537, q139, (plainFor_of_name lv_587), lv_588, by decide⟩
theorem mok_J31_append : MOK tJ31_append := ⟨q1505, q174, (plainFor_of_name lv_624), lv_293, by decide⟩
theorem mok_J32_append : MOK tJ32_append := ⟨q1502, q175, (plainFor_of_name lv_625), lv_626, by decide⟩
theorem mok_J31_getValue : MOK tJ31_getValue := ⟨q1588, q174, (plainFor_of_name lv_624), lv_293, by decide⟩
theorem mok_J31_length : MOK tJ31_length := ⟨q1596, q174, (plainFor_of_name lv_624), lv_293, by decide⟩
theorem mok_J32_length : MOK tJ32_length := ⟨q1594, q175, (plainFor_of_name lv_625), lv_626, by decide⟩
theorem mok_J30_checkLength : MOK tJ30_checkLength := ⟨q1606, q173, (plainFor_of_name lv_622), lv_623, by decide⟩
theorem mok_J30_copyOfRangeByte : MOK tJ30_copyOfRangeByte := ⟨q1603, q173, (plainFor_of_name lv_622), lv_623, by decide⟩
theorem mok_J30_copyOfRange : MOK tJ30_copyOfRange := ⟨q1600, q173, (plainFor_of_name lv_622), lv_623, by decide⟩
theorem mok_J2_init_2 : MOK tJ2_init_2 := ⟨q1582, q138, (plainFor_of_name lv_583), lv_584, by decide⟩
theorem mok_J2_init : MOK tJ2_init := ⟨q1579, q138, (plainFor_of_name lv_583), lv_584, by decide⟩
theorem mok_J32_toString : MOK tJ32_toString := ⟨q1575, q175, (plainFor_of_name lv_625), lv_626, by decide⟩
theorem mok_J1_getNode : MOK tJ1_getNode := ⟨q1638, q137, (plainFor_of_name lv_580), lv_84, by decide⟩
theorem mok_J1_get : MOK tJ1_get := ⟨q1644, q137, (plainFor_of_name lv_580), lv_84, by decide⟩
theorem mok_J34_get : MOK tJ34_get := ⟨q1632, q180, (plainFor_of_name lv_595), lv_596, by decide⟩
theorem mok_X0_named : MOK tX0_named := ⟨q1465, q134, (plainFor_of_name lv_608), lv_609, by decide⟩
theorem mok_J20_size : MOK tJ20_size := ⟨q1650, q158, (plainFor_of_name lv_602), lv_603, by decide⟩
theorem mok_X7_init : MOK tX7_init := ⟨q1662, q177, (plainFor_of_name lv_628), lv_629, by decide⟩
theorem mok_X6_init : MOK tX6_init := ⟨q1655, q176, (plainFor_of_name lv_630), lv_631, by decide⟩
theorem mok_J20_grow_2 : MOK tJ20_grow_2 := ⟨q1741, q158, (plainFor_of_name lv_602), lv_603, by decide⟩
theorem mok_J20_grow : MOK tJ20_grow := ⟨q1737, q158, (plainFor_of_name lv_602), lv_603, by decide⟩
theorem mok_J20_add_2 : MOK tJ20_add_2 := ⟨q1733, q158, (plainFor_of_name lv_602), lv_603, by decide⟩
theorem mok_J20_add : MOK tJ20_add := ⟨q1729, q158, (plainFor_of_name lv_602), lv_603, by decide⟩
theorem mok_X0_statement : MOK tX0_statement := ⟨q1461, q134, (plainFor_of_name lv_608), lv_609, by decide⟩
theorem mok_X3_isTyped : MOK tX3_isTyped := ⟨q2815, q161, (plainFor_of_name lv_610), lv_611, by decide⟩
theorem mok_X3_isName : MOK tX3_isName := ⟨q2811, q161, (plainFor_of_name lv_610), lv_611, by decide⟩
theorem mok_X3_statement : MOK tX3_statement := ⟨q2807, q161, (plainFor_of_name lv_610), lv_611, by decide⟩
theorem mok_X0_isStatement : MOK tX0_isStatement := ⟨q1774, q134, (plainFor_of_name lv_608), lv_609, by decide⟩
theorem mok_X0_isReference : MOK tX0_isReference := ⟨q1770, q134, (plainFor_of_name lv_608), lv_609, by decide⟩
theorem mok_J12_checkIndex : MOK tJ12_checkIndex := ⟨q1571, q150, (plainFor_of_name lv_632), lv_633, by decide⟩
theorem mok_J33_checkIndex : MOK tJ33_checkIndex := ⟨q1756, q178, (plainFor_of_name lv_634), lv_635, by decide⟩
theorem mok_J20_elementData : MOK tJ20_elementData := ⟨q1783, q158, (plainFor_of_name lv_602), lv_603, by decide⟩
theorem mok_J20_get : MOK tJ20_get := ⟨q1779, q158, (plainFor_of_name lv_602), lv_603, by decide⟩
theorem mok_X6_at : MOK tX6_at := ⟨q1787, q176, (plainFor_of_name lv_630), lv_631, by decide⟩
theorem mok_X0_refer : MOK tX0_refer := ⟨q1766, q134, (plainFor_of_name lv_608), lv_609, by decide⟩
theorem mok_X3_isStatement : MOK tX3_isStatement := ⟨q2823, q161, (plainFor_of_name lv_610), lv_611, by decide⟩
theorem mok_X3_refer : MOK tX3_refer := ⟨q2819, q161, (plainFor_of_name lv_610), lv_611, by decide⟩
theorem mok_X7_moves : MOK tX7_moves := ⟨q1801, q177, (plainFor_of_name lv_628), lv_629, by decide⟩
theorem mok_X0_place : MOK tX0_place := ⟨q1793, q134, (plainFor_of_name lv_608), lv_609, by decide⟩
theorem mok_X3_place : MOK tX3_place := ⟨q2827, q161, (plainFor_of_name lv_610), lv_611, by decide⟩
theorem mok_X6_waits : MOK tX6_waits := ⟨q1813, q176, (plainFor_of_name lv_630), lv_631, by decide⟩
theorem mok_X0_guard : MOK tX0_guard := ⟨q1809, q134, (plainFor_of_name lv_608), lv_609, by decide⟩
theorem mok_X3_guard : MOK tX3_guard := ⟨q2831, q161, (plainFor_of_name lv_610), lv_611, by decide⟩
theorem mok_X0_mask : MOK tX0_mask := ⟨q1821, q134, (plainFor_of_name lv_608), lv_609, by decide⟩
theorem mok_X3_mask : MOK tX3_mask := ⟨q2835, q161, (plainFor_of_name lv_610), lv_611, by decide⟩
theorem mok_J21_dec : MOK tJ21_dec := ⟨q1835, q159, (plainFor_of_name lv_604), lv_605, by decide⟩
theorem mok_J21_pollLast : MOK tJ21_pollLast := ⟨q1832, q159, (plainFor_of_name lv_604), lv_605, by decide⟩
theorem mok_X0_lambda_turns_0 : MOK tX0_lambda_turns_0 := ⟨q1388, q134, (plainFor_of_name lv_608), lv_609, by decide⟩
theorem mok_J20_fastRemove : MOK tJ20_fastRemove := ⟨q1761, q158, (plainFor_of_name lv_602), lv_603, by decide⟩
theorem mok_J20_remove : MOK tJ20_remove := ⟨q1753, q158, (plainFor_of_name lv_602), lv_603, by decide⟩
theorem mok_X0_lambda_statement_1 : MOK tX0_lambda_statement_1 := ⟨q1749, q134, (plainFor_of_name lv_608), lv_609, by decide⟩
theorem mok_X0_lambda_refer_2 : MOK tX0_lambda_refer_2 := ⟨q1789, q134, (plainFor_of_name lv_608), lv_609, by decide⟩
theorem mok_X0_lambda_place_3 : MOK tX0_lambda_place_3 := ⟨q1805, q134, (plainFor_of_name lv_608), lv_609, by decide⟩
theorem mok_X0_lambda_guard_4 : MOK tX0_lambda_guard_4 := ⟨q1817, q134, (plainFor_of_name lv_608), lv_609, by decide⟩
theorem mok_X0_lambda_mask_5 : MOK tX0_lambda_mask_5 := ⟨q1824, q134, (plainFor_of_name lv_608), lv_609, by decide⟩
theorem mok_X0_undo : MOK tX0_undo := ⟨q1828, q134, (plainFor_of_name lv_608), lv_609, by decide⟩
theorem mok_X3_undo : MOK tX3_undo := ⟨q2839, q161, (plainFor_of_name lv_610), lv_611, by decide⟩
theorem mok_X4_isNumbers : MOK tX4_isNumbers := ⟨q1860, q163, (plainFor_of_name lv_612), lv_238, by decide⟩
theorem mok_X0_numbers : MOK tX0_numbers := ⟨q1856, q134, (plainFor_of_name lv_608), lv_609, by decide⟩
theorem mok_X7_isAlike : MOK tX7_isAlike := ⟨q1868, q177, (plainFor_of_name lv_628), lv_629, by decide⟩
theorem mok_X6_gathers : MOK tX6_gathers := ⟨q1864, q176, (plainFor_of_name lv_630), lv_631, by decide⟩
theorem mok_X6_family : MOK tX6_family := ⟨q1851, q176, (plainFor_of_name lv_630), lv_631, by decide⟩
theorem mok_X6_lambda_new_0 : MOK tX6_lambda_new_0 := ⟨q1693, q176, (plainFor_of_name lv_630), lv_631, by decide⟩
theorem mok_X6_lambda_waits_1 : MOK tX6_lambda_waits_1 := ⟨q1815, q176, (plainFor_of_name lv_630), lv_631, by decide⟩
theorem mok_X4_has : MOK tX4_has := ⟨q1891, q163, (plainFor_of_name lv_612), lv_238, by decide⟩
theorem mok_X4_isTrue : MOK tX4_isTrue := ⟨q1887, q163, (plainFor_of_name lv_612), lv_238, by decide⟩
theorem mok_X6_isDone : MOK tX6_isDone := ⟨q1879, q176, (plainFor_of_name lv_630), lv_631, by decide⟩
theorem mok_X6_doneIn : MOK tX6_doneIn := ⟨q1875, q176, (plainFor_of_name lv_630), lv_631, by decide⟩
theorem mok_X6_tells : MOK tX6_tells := ⟨q1847, q176, (plainFor_of_name lv_630), lv_631, by decide⟩
theorem mok_X0_info : MOK tX0_info := ⟨q1843, q134, (plainFor_of_name lv_608), lv_609, by decide⟩
theorem mok_X3_formAs : MOK tX3_formAs := ⟨q2855, q161, (plainFor_of_name lv_610), lv_611, by decide⟩
theorem mok_X3_isNumbers : MOK tX3_isNumbers := ⟨q2858, q161, (plainFor_of_name lv_610), lv_611, by decide⟩
theorem mok_X3_familyAs : MOK tX3_familyAs := ⟨q2851, q161, (plainFor_of_name lv_610), lv_611, by decide⟩
theorem mok_X3_isDone : MOK tX3_isDone := ⟨q2866, q161, (plainFor_of_name lv_610), lv_611, by decide⟩
theorem mok_X3_doneMany : MOK tX3_doneMany := ⟨q2862, q161, (plainFor_of_name lv_610), lv_611, by decide⟩
theorem mok_X3_infoOf : MOK tX3_infoOf := ⟨q2847, q161, (plainFor_of_name lv_610), lv_611, by decide⟩
theorem mok_X3_info : MOK tX3_info := ⟨q2843, q161, (plainFor_of_name lv_610), lv_611, by decide⟩
theorem mok_X7_tells : MOK tX7_tells := ⟨q1901, q177, (plainFor_of_name lv_628), lv_629, by decide⟩
theorem mok_X0_reference : MOK tX0_reference := ⟨q1896, q134, (plainFor_of_name lv_608), lv_609, by decide⟩
theorem mok_X3_referenceOf : MOK tX3_referenceOf := ⟨q2874, q161, (plainFor_of_name lv_610), lv_611, by decide⟩
theorem mok_X3_reference : MOK tX3_reference := ⟨q2870, q161, (plainFor_of_name lv_610), lv_611, by decide⟩
theorem mok_X0_referenceAt : MOK tX0_referenceAt := ⟨q1914, q134, (plainFor_of_name lv_608), lv_609, by decide⟩
theorem mok_X0_isTo : MOK tX0_isTo := ⟨q1910, q134, (plainFor_of_name lv_608), lv_609, by decide⟩
theorem mok_X0_isTurn : MOK tX0_isTurn := ⟨q1918, q134, (plainFor_of_name lv_608), lv_609, by decide⟩
theorem mok_X7_lambda_new_0 : MOK tX7_lambda_new_0 := ⟨q1665, q177, (plainFor_of_name lv_628), lv_629, by decide⟩
theorem mok_X7_lambda_moves_1 : MOK tX7_lambda_moves_1 := ⟨q1803, q177, (plainFor_of_name lv_628), lv_629, by decide⟩
theorem mok_J8_abs : MOK tJ8_abs := ⟨q1934, q144, lv_636, lv_621, by decide⟩
theorem mok_X8_init : MOK tX8_init := ⟨q1937, q179, (plainFor_of_name lv_589), lv_590, by decide⟩
theorem mok_X8_of : MOK tX8_of := ⟨q1925, q179, (plainFor_of_name lv_589), lv_590, by decide⟩
theorem mok_X0_sectionAt : MOK tX0_sectionAt := ⟨q1922, q134, (plainFor_of_name lv_608), lv_609, by decide⟩
theorem mok_X8_tells : MOK tX8_tells := ⟨q1955, q179, (plainFor_of_name lv_589), lv_590, by decide⟩
theorem mok_X0_section : MOK tX0_section := ⟨q1906, q134, (plainFor_of_name lv_608), lv_609, by decide⟩
theorem mok_X3_isSection : MOK tX3_isSection := ⟨q2882, q161, (plainFor_of_name lv_610), lv_611, by decide⟩
theorem mok_X3_placeOf : MOK tX3_placeOf := ⟨q2894, q161, (plainFor_of_name lv_610), lv_611, by decide⟩
theorem mok_X3_firstOf : MOK tX3_firstOf := ⟨q2890, q161, (plainFor_of_name lv_610), lv_611, by decide⟩
theorem mok_X3_manyOf : MOK tX3_manyOf := ⟨q2902, q161, (plainFor_of_name lv_610), lv_611, by decide⟩
theorem mok_X3_strideOf : MOK tX3_strideOf := ⟨q2898, q161, (plainFor_of_name lv_610), lv_611, by decide⟩
theorem mok_X3_sectionOf : MOK tX3_sectionOf := ⟨q2886, q161, (plainFor_of_name lv_610), lv_611, by decide⟩
theorem mok_X3_section : MOK tX3_section := ⟨q2878, q161, (plainFor_of_name lv_610), lv_611, by decide⟩
theorem mok_X0_divisor : MOK tX0_divisor := ⟨q1966, q134, (plainFor_of_name lv_608), lv_609, by decide⟩
theorem mok_J8_floorMod : MOK tJ8_floorMod := ⟨q1969, q144, lv_637, lv_621, by decide⟩
theorem mok_X8_last : MOK tX8_last := ⟨q1974, q179, (plainFor_of_name lv_589), lv_590, by decide⟩
theorem mok_X8_meet : MOK tX8_meet := ⟨q1963, q179, (plainFor_of_name lv_589), lv_590, by decide⟩
theorem mok_X0_meet : MOK tX0_meet := ⟨q1959, q134, (plainFor_of_name lv_608), lv_609, by decide⟩
theorem mok_X3_hasPlace : MOK tX3_hasPlace := ⟨q2914, q161, (plainFor_of_name lv_610), lv_611, by decide⟩
theorem mok_X3_meetOf : MOK tX3_meetOf := ⟨q2910, q161, (plainFor_of_name lv_610), lv_611, by decide⟩
theorem mok_X3_meet : MOK tX3_meet := ⟨q2906, q161, (plainFor_of_name lv_610), lv_611, by decide⟩
theorem mok_J34_init : MOK tJ34_init := ⟨q1986, q180, (plainFor_of_name lv_595), lv_596, by decide⟩
theorem mok_X6_looks : MOK tX6_looks := ⟨q2017, q176, (plainFor_of_name lv_630), lv_631, by decide⟩
theorem mok_X9_init : MOK tX9_init := ⟨q2023, q181, (plainFor_of_name lv_638), lv_639, by decide⟩
theorem mok_X0_kindsOf : MOK tX0_kindsOf := ⟨q1982, q134, (plainFor_of_name lv_608), lv_609, by decide⟩
theorem mok_J1_size : MOK tJ1_size := ⟨q2042, q137, (plainFor_of_name lv_580), lv_84, by decide⟩
theorem mok_X0_kinds : MOK tX0_kinds := ⟨q1978, q134, (plainFor_of_name lv_608), lv_609, by decide⟩
theorem mok_X3_isLooked : MOK tX3_isLooked := ⟨q2930, q161, (plainFor_of_name lv_610), lv_611, by decide⟩
theorem mok_X3_addsKind : MOK tX3_addsKind := ⟨q2934, q161, (plainFor_of_name lv_610), lv_611, by decide⟩
theorem mok_X3_addsIf : MOK tX3_addsIf := ⟨q2926, q161, (plainFor_of_name lv_610), lv_611, by decide⟩
theorem mok_X3_findsKinds : MOK tX3_findsKinds := ⟨q2922, q161, (plainFor_of_name lv_610), lv_611, by decide⟩
theorem mok_X3_kinds : MOK tX3_kinds := ⟨q2918, q161, (plainFor_of_name lv_610), lv_611, by decide⟩
theorem mok_J35_init : MOK tJ35_init := ⟨q2062, q182, (plainFor_of_name lv_640), lv_641, by decide⟩
theorem mok_J34_sequencedValues : MOK tJ34_sequencedValues := ⟨q2057, q180, (plainFor_of_name lv_595), lv_596, by decide⟩
theorem mok_J34_values : MOK tJ34_values := ⟨q2053, q180, (plainFor_of_name lv_595), lv_596, by decide⟩
theorem mok_J38_init : MOK tJ38_init := ⟨q2140, q185, (plainFor_of_name lv_642), lv_426, by decide⟩
theorem mok_J39_init : MOK tJ39_init := ⟨q2137, q186, (plainFor_of_name lv_643), lv_644, by decide⟩
theorem mok_J35_iterator : MOK tJ35_iterator := ⟨q2132, q182, (plainFor_of_name lv_640), lv_641, by decide⟩
theorem mok_J38_hasNext : MOK tJ38_hasNext := ⟨q2179, q185, (plainFor_of_name lv_642), lv_426, by decide⟩
theorem mok_J38_nextNode : MOK tJ38_nextNode := ⟨q2212, q185, (plainFor_of_name lv_642), lv_426, by decide⟩
theorem mok_J39_next : MOK tJ39_next := ⟨q2206, q186, (plainFor_of_name lv_643), lv_644, by decide⟩
theorem mok_X0_nth : MOK tX0_nth := ⟨q2049, q134, (plainFor_of_name lv_608), lv_609, by decide⟩
theorem mok_X0_kind : MOK tX0_kind := ⟨q2046, q134, (plainFor_of_name lv_608), lv_609, by decide⟩
theorem mok_X3_kind : MOK tX3_kind := ⟨q2938, q161, (plainFor_of_name lv_610), lv_611, by decide⟩
theorem mok_X0_isSet : MOK tX0_isSet := ⟨q2220, q134, (plainFor_of_name lv_608), lv_609, by decide⟩
theorem mok_X0_fits : MOK tX0_fits := ⟨q2232, q134, (plainFor_of_name lv_608), lv_609, by decide⟩
theorem mok_X0_setAt : MOK tX0_setAt := ⟨q2244, q134, (plainFor_of_name lv_608), lv_609, by decide⟩
theorem mok_X0_cellsOf : MOK tX0_cellsOf := ⟨q2248, q134, (plainFor_of_name lv_608), lv_609, by decide⟩
theorem mok_X1_isFirm : MOK tX1_isFirm := ⟨q2252, q135, (plainFor_of_name lv_581), lv_582, by decide⟩
theorem mok_X0_isOwn : MOK tX0_isOwn := ⟨q2255, q134, (plainFor_of_name lv_608), lv_609, by decide⟩
theorem mok_X0_reads : MOK tX0_reads := ⟨q2241, q134, (plainFor_of_name lv_608), lv_609, by decide⟩
theorem mok_X1_isDoubtful : MOK tX1_isDoubtful := ⟨q2259, q135, (plainFor_of_name lv_581), lv_582, by decide⟩
theorem mok_X0_goes : MOK tX0_goes := ⟨q2228, q134, (plainFor_of_name lv_608), lv_609, by decide⟩
theorem mok_X0_knows : MOK tX0_knows := ⟨q2224, q134, (plainFor_of_name lv_608), lv_609, by decide⟩
theorem mok_X0_bitsOf : MOK tX0_bitsOf := ⟨q2263, q134, (plainFor_of_name lv_608), lv_609, by decide⟩
theorem mok_J10_bitCount : MOK tJ10_bitCount := ⟨q2266, q148, (plainFor_of_name lv_645), lv_646, by decide⟩
theorem mok_X0_many : MOK tX0_many := ⟨q2216, q134, (plainFor_of_name lv_608), lv_609, by decide⟩
theorem mok_X3_isSet : MOK tX3_isSet := ⟨q2946, q161, (plainFor_of_name lv_610), lv_611, by decide⟩
theorem mok_X3_bitAt : MOK tX3_bitAt := ⟨q2970, q161, (plainFor_of_name lv_610), lv_611, by decide⟩
theorem mok_X3_reads : MOK tX3_reads := ⟨q2966, q161, (plainFor_of_name lv_610), lv_611, by decide⟩
theorem mok_X3_knows : MOK tX3_knows := ⟨q2962, q161, (plainFor_of_name lv_610), lv_611, by decide⟩
theorem mok_X3_findsTurn : MOK tX3_findsTurn := ⟨q2958, q161, (plainFor_of_name lv_610), lv_611, by decide⟩
theorem mok_X3_findsSets : MOK tX3_findsSets := ⟨q2954, q161, (plainFor_of_name lv_610), lv_611, by decide⟩
theorem mok_X3_bitsOfTurn : MOK tX3_bitsOfTurn := ⟨q2974, q161, (plainFor_of_name lv_610), lv_611, by decide⟩
theorem mok_X3_bitsOfSet : MOK tX3_bitsOfSet := ⟨q2950, q161, (plainFor_of_name lv_610), lv_611, by decide⟩
theorem mok_X3_size : MOK tX3_size := ⟨q2977, q161, (plainFor_of_name lv_610), lv_611, by decide⟩
theorem mok_X3_many : MOK tX3_many := ⟨q2942, q161, (plainFor_of_name lv_610), lv_611, by decide⟩
theorem mok_J11_numberOfTrailingZeros : MOK tJ11_numberOfTrailingZeros := ⟨q633, q149, (plainFor_of_name lv_647), lv_648, by decide⟩
theorem mok_J10_numberOfTrailingZeros : MOK tJ10_numberOfTrailingZeros := ⟨q630, q148, (plainFor_of_name lv_645), lv_646, by decide⟩
theorem mok_X0_piece : MOK tX0_piece := ⟨q2279, q134, (plainFor_of_name lv_608), lv_609, by decide⟩
theorem mok_X0_without : MOK tX0_without := ⟨q2285, q134, (plainFor_of_name lv_608), lv_609, by decide⟩
theorem mok_X0_piecesOf : MOK tX0_piecesOf := ⟨q2276, q134, (plainFor_of_name lv_608), lv_609, by decide⟩
theorem mok_X0_pieces : MOK tX0_pieces := ⟨q2273, q134, (plainFor_of_name lv_608), lv_609, by decide⟩
theorem mok_X3_nextBit : MOK tX3_nextBit := ⟨q2992, q161, (plainFor_of_name lv_610), lv_611, by decide⟩
theorem mok_X3_without : MOK tX3_without := ⟨q2989, q161, (plainFor_of_name lv_610), lv_611, by decide⟩
theorem mok_X3_piecesOf : MOK tX3_piecesOf := ⟨q2985, q161, (plainFor_of_name lv_610), lv_611, by decide⟩
theorem mok_X3_pieces : MOK tX3_pieces := ⟨q2981, q161, (plainFor_of_name lv_610), lv_611, by decide⟩
theorem mok_X0_piece_2 : MOK tX0_piece_2 := ⟨q2289, q134, (plainFor_of_name lv_608), lv_609, by decide⟩
theorem mok_X3_pieceOf : MOK tX3_pieceOf := ⟨q3000, q161, (plainFor_of_name lv_610), lv_611, by decide⟩
theorem mok_X3_piece : MOK tX3_piece := ⟨q2996, q161, (plainFor_of_name lv_610), lv_611, by decide⟩
theorem mok_X0_isShared : MOK tX0_isShared := ⟨q2305, q134, (plainFor_of_name lv_608), lv_609, by decide⟩
theorem mok_X6_isOf : MOK tX6_isOf := ⟨q2313, q176, (plainFor_of_name lv_630), lv_631, by decide⟩
theorem mok_X0_isGathered : MOK tX0_isGathered := ⟨q2309, q134, (plainFor_of_name lv_608), lv_609, by decide⟩
theorem mok_X0_waits : MOK tX0_waits := ⟨q2319, q134, (plainFor_of_name lv_608), lv_609, by decide⟩
theorem mok_X0_verdictBy : MOK tX0_verdictBy := ⟨q2301, q134, (plainFor_of_name lv_608), lv_609, by decide⟩
theorem mok_X0_verdictOf : MOK tX0_verdictOf := ⟨q2297, q134, (plainFor_of_name lv_608), lv_609, by decide⟩
theorem mok_X0_verdict : MOK tX0_verdict := ⟨q2293, q134, (plainFor_of_name lv_608), lv_609, by decide⟩
theorem mok_X3_isWritten : MOK tX3_isWritten := ⟨q3016, q161, (plainFor_of_name lv_610), lv_611, by decide⟩
theorem mok_X3_isShared : MOK tX3_isShared := ⟨q3020, q161, (plainFor_of_name lv_610), lv_611, by decide⟩
theorem mok_X3_isAbout : MOK tX3_isAbout := ⟨q3028, q161, (plainFor_of_name lv_610), lv_611, by decide⟩
theorem mok_X3_isGathered : MOK tX3_isGathered := ⟨q3024, q161, (plainFor_of_name lv_610), lv_611, by decide⟩
theorem mok_X3_isCopied : MOK tX3_isCopied := ⟨q3032, q161, (plainFor_of_name lv_610), lv_611, by decide⟩
theorem mok_X3_verdictAs : MOK tX3_verdictAs := ⟨q3012, q161, (plainFor_of_name lv_610), lv_611, by decide⟩
theorem mok_X3_verdictOf : MOK tX3_verdictOf := ⟨q3008, q161, (plainFor_of_name lv_610), lv_611, by decide⟩
theorem mok_X3_verdict : MOK tX3_verdict := ⟨q3004, q161, (plainFor_of_name lv_610), lv_611, by decide⟩
theorem mok_X0_would : MOK tX0_would := ⟨q2323, q134, (plainFor_of_name lv_608), lv_609, by decide⟩
theorem mok_X3_would : MOK tX3_would := ⟨q3036, q161, (plainFor_of_name lv_610), lv_611, by decide⟩
theorem mok_X0_lastOf : MOK tX0_lastOf := ⟨q2335, q134, (plainFor_of_name lv_608), lv_609, by decide⟩
theorem mok_X0_witnessBy : MOK tX0_witnessBy := ⟨q2331, q134, (plainFor_of_name lv_608), lv_609, by decide⟩
theorem mok_X0_witness : MOK tX0_witness := ⟨q2327, q134, (plainFor_of_name lv_608), lv_609, by decide⟩
theorem mok_X3_witnessOf : MOK tX3_witnessOf := ⟨q3044, q161, (plainFor_of_name lv_610), lv_611, by decide⟩
theorem mok_X3_witness : MOK tX3_witness := ⟨q3040, q161, (plainFor_of_name lv_610), lv_611, by decide⟩
theorem mok_X0_last : MOK tX0_last := ⟨q2339, q134, (plainFor_of_name lv_608), lv_609, by decide⟩
theorem mok_X3_lastOf : MOK tX3_lastOf := ⟨q3052, q161, (plainFor_of_name lv_610), lv_611, by decide⟩
theorem mok_X3_last : MOK tX3_last := ⟨q3048, q161, (plainFor_of_name lv_610), lv_611, by decide⟩
theorem mok_X2_passes : MOK tX2_passes := ⟨q2360, q160, (plainFor_of_name lv_606), lv_607, by decide⟩
theorem mok_X2_begins : MOK tX2_begins := ⟨q2356, q160, (plainFor_of_name lv_606), lv_607, by decide⟩
theorem mok_X0_begins : MOK tX0_begins := ⟨q2352, q134, (plainFor_of_name lv_608), lv_609, by decide⟩
theorem mok_X2_isLeft : MOK tX2_isLeft := ⟨q2368, q160, (plainFor_of_name lv_606), lv_607, by decide⟩
theorem mok_X2_wrong : MOK tX2_wrong := ⟨q2385, q160, (plainFor_of_name lv_606), lv_607, by decide⟩
theorem mok_X2_against : MOK tX2_against := ⟨q2380, q160, (plainFor_of_name lv_606), lv_607, by decide⟩
theorem mok_X4_at : MOK tX4_at := ⟨q2403, q163, (plainFor_of_name lv_612), lv_238, by decide⟩
theorem mok_X2_value : MOK tX2_value := ⟨q2399, q160, (plainFor_of_name lv_606), lv_607, by decide⟩
theorem mok_X1_isWhole : MOK tX1_isWhole := ⟨q2415, q135, (plainFor_of_name lv_581), lv_582, by decide⟩
theorem mok_X0_formOf : MOK tX0_formOf := ⟨q2423, q134, (plainFor_of_name lv_608), lv_609, by decide⟩
theorem mok_X0_widthOf : MOK tX0_widthOf := ⟨q2411, q134, (plainFor_of_name lv_608), lv_609, by decide⟩
theorem mok_X1_lambda_all_0 : MOK tX1_lambda_all_0 := ⟨q239, q135, (plainFor_of_name lv_581), lv_582, by decide⟩
theorem mok_X1_lambda_all_3 : MOK tX1_lambda_all_3 := ⟨q871, q135, (plainFor_of_name lv_581), lv_582, by decide⟩
theorem mok_X1_lambda_all_6 : MOK tX1_lambda_all_6 := ⟨q878, q135, (plainFor_of_name lv_581), lv_582, by decide⟩
theorem mok_X1_rest : MOK tX1_rest := ⟨q885, q135, (plainFor_of_name lv_581), lv_582, by decide⟩
theorem mok_X1_lambda_all_9 : MOK tX1_lambda_all_9 := ⟨q892, q135, (plainFor_of_name lv_581), lv_582, by decide⟩
theorem mok_X1_lambda_all_12 : MOK tX1_lambda_all_12 := ⟨q899, q135, (plainFor_of_name lv_581), lv_582, by decide⟩
theorem mok_X1_lambda_all_15 : MOK tX1_lambda_all_15 := ⟨q906, q135, (plainFor_of_name lv_581), lv_582, by decide⟩
theorem mok_X1_lambda_all_16 : MOK tX1_lambda_all_16 := ⟨q909, q135, (plainFor_of_name lv_581), lv_582, by decide⟩
theorem mok_X1_lambda_all_17 : MOK tX1_lambda_all_17 := ⟨q912, q135, (plainFor_of_name lv_581), lv_582, by decide⟩
theorem mok_X1_lambda_all_18 : MOK tX1_lambda_all_18 := ⟨q915, q135, (plainFor_of_name lv_581), lv_582, by decide⟩
theorem mok_X1_lambda_all_21 : MOK tX1_lambda_all_21 := ⟨q922, q135, (plainFor_of_name lv_581), lv_582, by decide⟩
theorem mok_J8_addExact : MOK tJ8_addExact := ⟨q932, q144, lv_649, lv_621, by decide⟩
theorem mok_X1_sum : MOK tX1_sum := ⟨q929, q135, (plainFor_of_name lv_581), lv_582, by decide⟩
theorem mok_J8_multiplyExact : MOK tJ8_multiplyExact := ⟨q1021, q144, lv_650, lv_621, by decide⟩
theorem mok_X1_product : MOK tX1_product := ⟨q1018, q135, (plainFor_of_name lv_581), lv_582, by decide⟩
theorem mok_X1_lambda_all_1 : MOK tX1_lambda_all_1 := ⟨q241, q135, (plainFor_of_name lv_581), lv_582, by decide⟩
theorem mok_X1_lambda_all_4 : MOK tX1_lambda_all_4 := ⟨q873, q135, (plainFor_of_name lv_581), lv_582, by decide⟩
theorem mok_X1_lambda_all_7 : MOK tX1_lambda_all_7 := ⟨q880, q135, (plainFor_of_name lv_581), lv_582, by decide⟩
theorem mok_X1_restOf : MOK tX1_restOf := ⟨q887, q135, (plainFor_of_name lv_581), lv_582, by decide⟩
theorem mok_X1_lambda_all_10 : MOK tX1_lambda_all_10 := ⟨q894, q135, (plainFor_of_name lv_581), lv_582, by decide⟩
theorem mok_X1_lambda_all_13 : MOK tX1_lambda_all_13 := ⟨q901, q135, (plainFor_of_name lv_581), lv_582, by decide⟩
theorem mok_X1_lambda_all_19 : MOK tX1_lambda_all_19 := ⟨q917, q135, (plainFor_of_name lv_581), lv_582, by decide⟩
theorem mok_X1_lambda_all_22 : MOK tX1_lambda_all_22 := ⟨q924, q135, (plainFor_of_name lv_581), lv_582, by decide⟩
theorem mok_X1_lambda_all_2 : MOK tX1_lambda_all_2 := ⟨q244, q135, (plainFor_of_name lv_581), lv_582, by decide⟩
theorem mok_X1_lambda_all_5 : MOK tX1_lambda_all_5 := ⟨q875, q135, (plainFor_of_name lv_581), lv_582, by decide⟩
theorem mok_X1_lambda_all_8 : MOK tX1_lambda_all_8 := ⟨q882, q135, (plainFor_of_name lv_581), lv_582, by decide⟩
theorem mok_X1_restIn : MOK tX1_restIn := ⟨q889, q135, (plainFor_of_name lv_581), lv_582, by decide⟩
theorem mok_X1_lambda_all_11 : MOK tX1_lambda_all_11 := ⟨q896, q135, (plainFor_of_name lv_581), lv_582, by decide⟩
theorem mok_X1_lambda_all_14 : MOK tX1_lambda_all_14 := ⟨q903, q135, (plainFor_of_name lv_581), lv_582, by decide⟩
theorem mok_X1_lambda_all_20 : MOK tX1_lambda_all_20 := ⟨q919, q135, (plainFor_of_name lv_581), lv_582, by decide⟩
theorem mok_X1_lambda_all_23 : MOK tX1_lambda_all_23 := ⟨q926, q135, (plainFor_of_name lv_581), lv_582, by decide⟩
theorem mok_X0_done : MOK tX0_done := ⟨q2427, q134, (plainFor_of_name lv_608), lv_609, by decide⟩
theorem mok_X4_cast : MOK tX4_cast := ⟨q2443, q163, (plainFor_of_name lv_612), lv_238, by decide⟩
theorem mok_X2_brings : MOK tX2_brings := ⟨q2407, q160, (plainFor_of_name lv_606), lv_607, by decide⟩
theorem mok_X0_isGreater : MOK tX0_isGreater := ⟨q2446, q134, (plainFor_of_name lv_608), lv_609, by decide⟩
theorem mok_X4_becomes : MOK tX4_becomes := ⟨q2454, q163, (plainFor_of_name lv_612), lv_238, by decide⟩
theorem mok_X2_writes : MOK tX2_writes := ⟨q2450, q160, (plainFor_of_name lv_606), lv_607, by decide⟩
theorem mok_X2_acts : MOK tX2_acts := ⟨q2394, q160, (plainFor_of_name lv_606), lv_607, by decide⟩
theorem mok_X2_goesOn : MOK tX2_goesOn := ⟨q2458, q160, (plainFor_of_name lv_606), lv_607, by decide⟩
theorem mok_X2_steps : MOK tX2_steps := ⟨q2376, q160, (plainFor_of_name lv_606), lv_607, by decide⟩
theorem mok_X0_steps : MOK tX0_steps := ⟨q2372, q134, (plainFor_of_name lv_608), lv_609, by decide⟩
theorem mok_X0_runs : MOK tX0_runs := ⟨q2348, q134, (plainFor_of_name lv_608), lv_609, by decide⟩
theorem mok_X0_tellsRun : MOK tX0_tellsRun := ⟨q2462, q134, (plainFor_of_name lv_608), lv_609, by decide⟩
theorem mok_X0_run : MOK tX0_run := ⟨q2344, q134, (plainFor_of_name lv_608), lv_609, by decide⟩
theorem mok_X3_firstFrom : MOK tX3_firstFrom := ⟨q3068, q161, (plainFor_of_name lv_610), lv_611, by decide⟩
theorem mok_X3_begins : MOK tX3_begins := ⟨q3064, q161, (plainFor_of_name lv_610), lv_611, by decide⟩
theorem mok_X3_lacksPlace : MOK tX3_lacksPlace := ⟨q3084, q161, (plainFor_of_name lv_610), lv_611, by decide⟩
theorem mok_X3_read : MOK tX3_read := ⟨q3080, q161, (plainFor_of_name lv_610), lv_611, by decide⟩
theorem mok_X3_formBy : MOK tX3_formBy := ⟨q3096, q161, (plainFor_of_name lv_610), lv_611, by decide⟩
theorem mok_X3_widthOf : MOK tX3_widthOf := ⟨q3092, q161, (plainFor_of_name lv_610), lv_611, by decide⟩
theorem mok_X3_isInt : MOK tX3_isInt := ⟨q3103, q161, (plainFor_of_name lv_610), lv_611, by decide⟩
theorem mok_X3_byInts : MOK tX3_byInts := ⟨q3100, q161, (plainFor_of_name lv_610), lv_611, by decide⟩
theorem mok_X3_byFloats : MOK tX3_byFloats := ⟨q3109, q161, (plainFor_of_name lv_610), lv_611, by decide⟩
theorem mok_X3_zeroed : MOK tX3_zeroed := ⟨q3113, q161, (plainFor_of_name lv_610), lv_611, by decide⟩
theorem mok_X3_byDoubles : MOK tX3_byDoubles := ⟨q3117, q161, (plainFor_of_name lv_610), lv_611, by decide⟩
theorem mok_X3_does : MOK tX3_does := ⟨q3088, q161, (plainFor_of_name lv_610), lv_611, by decide⟩
theorem mok_X3_castTo : MOK tX3_castTo := ⟨q3121, q161, (plainFor_of_name lv_610), lv_611, by decide⟩
theorem mok_X3_writes : MOK tX3_writes := ⟨q3125, q161, (plainFor_of_name lv_610), lv_611, by decide⟩
theorem mok_X3_item : MOK tX3_item := ⟨q3076, q161, (plainFor_of_name lv_610), lv_611, by decide⟩
theorem mok_X3_steps : MOK tX3_steps := ⟨q3072, q161, (plainFor_of_name lv_610), lv_611, by decide⟩
theorem mok_X3_runNow : MOK tX3_runNow := ⟨q3060, q161, (plainFor_of_name lv_610), lv_611, by decide⟩
theorem mok_X3_run : MOK tX3_run := ⟨q3056, q161, (plainFor_of_name lv_610), lv_611, by decide⟩
theorem mok_X0_isTwo : MOK tX0_isTwo := ⟨q2473, q134, (plainFor_of_name lv_608), lv_609, by decide⟩
theorem mok_X0_isMix : MOK tX0_isMix := ⟨q2469, q134, (plainFor_of_name lv_608), lv_609, by decide⟩
theorem mok_X0_serialRows : MOK tX0_serialRows := ⟨q2481, q134, (plainFor_of_name lv_608), lv_609, by decide⟩
theorem mok_X0_isParallel : MOK tX0_isParallel := ⟨q2477, q134, (plainFor_of_name lv_608), lv_609, by decide⟩
theorem mok_X0_dealOf : MOK tX0_dealOf := ⟨q2489, q134, (plainFor_of_name lv_608), lv_609, by decide⟩
theorem mok_X0_lambda_dealOf_6 : MOK tX0_lambda_dealOf_6 := ⟨q2491, q134, (plainFor_of_name lv_608), lv_609, by decide⟩
theorem mok_X0_lambda_dealOf_7 : MOK tX0_lambda_dealOf_7 := ⟨q2493, q134, (plainFor_of_name lv_608), lv_609, by decide⟩
theorem mok_X0_next : MOK tX0_next := ⟨q2497, q134, (plainFor_of_name lv_608), lv_609, by decide⟩
theorem mok_X0_gathererOf : MOK tX0_gathererOf := ⟨q2513, q134, (plainFor_of_name lv_608), lv_609, by decide⟩
theorem mok_X0_comes : MOK tX0_comes := ⟨q2509, q134, (plainFor_of_name lv_608), lv_609, by decide⟩
theorem mok_X0_comesOut : MOK tX0_comesOut := ⟨q2505, q134, (plainFor_of_name lv_608), lv_609, by decide⟩
theorem mok_X0_mixes : MOK tX0_mixes := ⟨q2485, q134, (plainFor_of_name lv_608), lv_609, by decide⟩
theorem mok_X0_mixed : MOK tX0_mixed := ⟨q2466, q134, (plainFor_of_name lv_608), lv_609, by decide⟩
theorem mok_X3_serials : MOK tX3_serials := ⟨q3137, q161, (plainFor_of_name lv_610), lv_611, by decide⟩
theorem mok_X3_mayMix : MOK tX3_mayMix := ⟨q3133, q161, (plainFor_of_name lv_610), lv_611, by decide⟩
theorem mok_X3_turnOf : MOK tX3_turnOf := ⟨q3149, q161, (plainFor_of_name lv_610), lv_611, by decide⟩
theorem mok_X3_left : MOK tX3_left := ⟨q3145, q161, (plainFor_of_name lv_610), lv_611, by decide⟩
theorem mok_X3_copiesOut : MOK tX3_copiesOut := ⟨q3153, q161, (plainFor_of_name lv_610), lv_611, by decide⟩
theorem mok_X3_mixes : MOK tX3_mixes := ⟨q3141, q161, (plainFor_of_name lv_610), lv_611, by decide⟩
theorem mok_X3_mixed : MOK tX3_mixed := ⟨q3129, q161, (plainFor_of_name lv_610), lv_611, by decide⟩
theorem mok_X0_keeps : MOK tX0_keeps := ⟨q2530, q134, (plainFor_of_name lv_608), lv_609, by decide⟩
theorem mok_X0_keepsWriters : MOK tX0_keepsWriters := ⟨q2534, q134, (plainFor_of_name lv_608), lv_609, by decide⟩
theorem mok_X0_takesBack : MOK tX0_takesBack := ⟨q2538, q134, (plainFor_of_name lv_608), lv_609, by decide⟩
theorem mok_X0_isFound : MOK tX0_isFound := ⟨q2542, q134, (plainFor_of_name lv_608), lv_609, by decide⟩
theorem mok_X0_sameBy : MOK tX0_sameBy := ⟨q2526, q134, (plainFor_of_name lv_608), lv_609, by decide⟩
theorem mok_X0_same : MOK tX0_same := ⟨q2522, q134, (plainFor_of_name lv_608), lv_609, by decide⟩
theorem mok_X3_sameNow : MOK tX3_sameNow := ⟨q3161, q161, (plainFor_of_name lv_610), lv_611, by decide⟩
theorem mok_X3_same : MOK tX3_same := ⟨q3157, q161, (plainFor_of_name lv_610), lv_611, by decide⟩
theorem mok_X0_faults : MOK tX0_faults := ⟨q2546, q134, (plainFor_of_name lv_608), lv_609, by decide⟩
theorem mok_X3_faults : MOK tX3_faults := ⟨q3165, q161, (plainFor_of_name lv_610), lv_611, by decide⟩
theorem mok_X0_endedBy : MOK tX0_endedBy := ⟨q2555, q134, (plainFor_of_name lv_608), lv_609, by decide⟩
theorem mok_X0_ended : MOK tX0_ended := ⟨q2550, q134, (plainFor_of_name lv_608), lv_609, by decide⟩
theorem mok_X3_ended : MOK tX3_ended := ⟨q3169, q161, (plainFor_of_name lv_610), lv_611, by decide⟩
theorem mok_X0_writer : MOK tX0_writer := ⟨q2559, q134, (plainFor_of_name lv_608), lv_609, by decide⟩
theorem mok_X3_writer : MOK tX3_writer := ⟨q3173, q161, (plainFor_of_name lv_610), lv_611, by decide⟩
theorem mok_X0_serialNow : MOK tX0_serialNow := ⟨q2567, q134, (plainFor_of_name lv_608), lv_609, by decide⟩
theorem mok_X0_missing : MOK tX0_missing := ⟨q2571, q134, (plainFor_of_name lv_608), lv_609, by decide⟩
theorem mok_X0_count : MOK tX0_count := ⟨q2563, q134, (plainFor_of_name lv_608), lv_609, by decide⟩
theorem mok_X3_missing : MOK tX3_missing := ⟨q3181, q161, (plainFor_of_name lv_610), lv_611, by decide⟩
theorem mok_X3_count : MOK tX3_count := ⟨q3177, q161, (plainFor_of_name lv_610), lv_611, by decide⟩
theorem mok_X0_tellsOf : MOK tX0_tellsOf := ⟨q2582, q134, (plainFor_of_name lv_608), lv_609, by decide⟩
theorem mok_X0_tellsRow : MOK tX0_tellsRow := ⟨q2586, q134, (plainFor_of_name lv_608), lv_609, by decide⟩
theorem mok_X0_tellsCells : MOK tX0_tellsCells := ⟨q2590, q134, (plainFor_of_name lv_608), lv_609, by decide⟩
theorem mok_X0_digest : MOK tX0_digest := ⟨q2575, q134, (plainFor_of_name lv_608), lv_609, by decide⟩
theorem mok_X3_statementDigest : MOK tX3_statementDigest := ⟨q3192, q161, (plainFor_of_name lv_610), lv_611, by decide⟩
theorem mok_X3_rowDigest : MOK tX3_rowDigest := ⟨q3196, q161, (plainFor_of_name lv_610), lv_611, by decide⟩
theorem mok_X3_cellsDigest : MOK tX3_cellsDigest := ⟨q3200, q161, (plainFor_of_name lv_610), lv_611, by decide⟩
theorem mok_X3_digest : MOK tX3_digest := ⟨q3185, q161, (plainFor_of_name lv_610), lv_611, by decide⟩
