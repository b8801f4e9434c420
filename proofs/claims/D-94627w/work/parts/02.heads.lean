set_option maxRecDepth 100000
def RJ0 : String := "java/util/AbstractCollection"
abbrev cJ0_init : ByteArray := prog_41_method_1_code
def yJ0_init : MethodName := ⟨RJ0, "<init>", "()V"⟩
def RJ1 : String := "java/util/AbstractList"
abbrev cJ1_init : ByteArray := prog_42_method_1_code
def yJ1_init : MethodName := ⟨RJ1, "<init>", "()V"⟩
def RJ10 : String := "java/util/Arrays"
abbrev cJ10_copyOf : ByteArray := prog_44_method_121_code
def yJ10_copyOf : MethodName := ⟨RJ10, "copyOf", "([BI)[B"⟩
abbrev cJ10_copyOfRange : ByteArray := prog_44_method_132_code
def yJ10_copyOfRange : MethodName := ⟨RJ10, "copyOfRange", "([BII)[B"⟩
abbrev cJ10_copyOfRangeByte : ByteArray := prog_44_method_133_code
def yJ10_copyOfRangeByte : MethodName := ⟨RJ10, "copyOfRangeByte", "([BII)[B"⟩
abbrev cJ10_checkLength : ByteArray := prog_44_method_131_code
def yJ10_checkLength : MethodName := ⟨RJ10, "checkLength", "(II)V"⟩
abbrev cJ10_copyOf_2 : ByteArray := prog_44_method_119_code
def yJ10_copyOf_2 : MethodName := ⟨RJ10, "copyOf", "([Ljava/lang/Object;I)[Ljava/lang/Object;"⟩
abbrev cJ10_copyOf_3 : ByteArray := prog_44_method_120_code
def yJ10_copyOf_3 : MethodName := ⟨RJ10, "copyOf", "([Ljava/lang/Object;ILjava/lang/Class;)[Ljava/lang/Object;"⟩
abbrev cJ10_copyOf_4 : ByteArray := prog_44_method_123_code
def yJ10_copyOf_4 : MethodName := ⟨RJ10, "copyOf", "([II)[I"⟩
abbrev cJ10_fill : ByteArray := prog_44_method_101_code
def yJ10_fill : MethodName := ⟨RJ10, "fill", "([JJ)V"⟩
abbrev cJ10_sort : ByteArray := prog_44_method_2_code
def yJ10_sort : MethodName := ⟨RJ10, "sort", "([I)V"⟩
abbrev cJ10_fill_2 : ByteArray := prog_44_method_103_code
def yJ10_fill_2 : MethodName := ⟨RJ10, "fill", "([II)V"⟩
def RJ11 : String := "java/lang/StringLatin1"
abbrev cJ11_canEncode : ByteArray := prog_35_method_3_code
def yJ11_canEncode : MethodName := ⟨RJ11, "canEncode", "(C)Z"⟩
abbrev cJ11_inflate : ByteArray := prog_35_method_50_code
def yJ11_inflate : MethodName := ⟨RJ11, "inflate", "([BI[BII)V"⟩
abbrev cJ11_equals : ByteArray := prog_35_method_13_code
def yJ11_equals : MethodName := ⟨RJ11, "equals", "([B[B)Z"⟩
def RJ12 : String := "jdk/internal/util/Preconditions"
abbrev cJ12_checkFromIndexSize : ByteArray := prog_52_method_13_code
def yJ12_checkFromIndexSize : MethodName := ⟨RJ12, "checkFromIndexSize", "(IIILjava/util/function/BiFunction;)I"⟩
abbrev cJ12_checkIndex : ByteArray := prog_52_method_11_code
def yJ12_checkIndex : MethodName := ⟨RJ12, "checkIndex", "(IILjava/util/function/BiFunction;)I"⟩
def RJ13 : String := "java/lang/Throwable"
def TJ13 : u_T := fun k => match k with
  | 0 => ("java/lang/Throwable", "cause", "Ljava/lang/Throwable;", false)
  | 1 => ("java/lang/Throwable", "stackTrace", "[Ljava/lang/StackTraceElement;", false)
  | 2 => ("java/lang/Throwable", "suppressedExceptions", "Ljava/util/List;", false)
  | 3 => ("java/lang/Throwable", "detailMessage", "Ljava/lang/String;", false)
  | _ => ("java/lang/Throwable", "backtrace", "Ljava/lang/Object;", false)
def tyJ13 : Nat → FieldType := fun k => match k with
  | 0 => .object "java/lang/Throwable"
  | 1 => .array (.object "java/lang/StackTraceElement")
  | 2 => .object "java/util/List"
  | 3 => .object "java/lang/String"
  | _ => .object "java/lang/Object"
abbrev wsJ130 : List Cond := u_ws RJ13 TJ13 5
theorem nmJ13 : ∀ a, a < 5 → ∀ b, b < 5 → a ≠ b → (TJ13 a).2.1 ≠ (TJ13 b).2.1 := by decide +kernel
theorem tyJ13_ok : ∀ k, k < 5 → parseFieldDescriptor (TJ13 k).2.2.1 = some (tyJ13 k) := by decide +kernel
abbrev cJ13_init : ByteArray := prog_38_method_1_code
def yJ13_init : MethodName := ⟨RJ13, "<init>", "()V"⟩
def RJ14 : String := "java/lang/Exception"
abbrev cJ14_init : ByteArray := prog_27_method_1_code
def yJ14_init : MethodName := ⟨RJ14, "<init>", "()V"⟩
def RJ15 : String := "java/util/Objects"
abbrev cJ15_checkIndex : ByteArray := prog_48_method_17_code
def yJ15_checkIndex : MethodName := ⟨RJ15, "checkIndex", "(II)I"⟩
def RJ16 : String := "java/lang/Number"
abbrev cJ16_init : ByteArray := prog_32_method_1_code
def yJ16_init : MethodName := ⟨RJ16, "<init>", "()V"⟩
def RJ17 : String := "java/lang/Integer"
def TJ17 : u_T := fun k => match k with
  | _ => ("java/lang/Integer", "value", "I", true)
def tyJ17 : Nat → FieldType := fun k => match k with
  | _ => .int
abbrev wsJ170 : List Cond := u_ws RJ17 TJ17 1
theorem nmJ17 : ∀ a, a < 1 → ∀ b, b < 1 → a ≠ b → (TJ17 a).2.1 ≠ (TJ17 b).2.1 := by decide +kernel
theorem tyJ17_ok : ∀ k, k < 1 → parseFieldDescriptor (TJ17 k).2.2.1 = some (tyJ17 k) := by decide +kernel
abbrev cJ17_valueOf : ByteArray := prog_28_method_22_code
def yJ17_valueOf : MethodName := ⟨RJ17, "valueOf", "(I)Ljava/lang/Integer;"⟩
abbrev cJ17_init : ByteArray := prog_28_method_23_code
def yJ17_init : MethodName := ⟨RJ17, "<init>", "(I)V"⟩
abbrev cJ17_bitCount : ByteArray := prog_28_method_49_code
def yJ17_bitCount : MethodName := ⟨RJ17, "bitCount", "(I)I"⟩
abbrev cJ17_numberOfTrailingZeros : ByteArray := prog_28_method_48_code
def yJ17_numberOfTrailingZeros : MethodName := ⟨RJ17, "numberOfTrailingZeros", "(I)I"⟩
abbrev cJ17_intValue : ByteArray := prog_28_method_27_code
def yJ17_intValue : MethodName := ⟨RJ17, "intValue", "()I"⟩
def RJ18 : String := "java/util/DualPivotQuicksort"
abbrev cJ18_sort : ByteArray := prog_46_method_3_code
def yJ18_sort : MethodName := ⟨RJ18, "sort", "([IIII)V"⟩
abbrev cJ18_sort_2 : ByteArray := prog_46_method_4_code
def yJ18_sort_2 : MethodName := ⟨RJ18, "sort", "(Ljava/util/DualPivotQuicksort$Sorter;[IIII)V"⟩
abbrev cJ18_mixedInsertionSort : ByteArray := prog_46_method_5_code
def yJ18_mixedInsertionSort : MethodName := ⟨RJ18, "mixedInsertionSort", "([IIII)V"⟩
abbrev cJ18_insertionSort : ByteArray := prog_46_method_6_code
def yJ18_insertionSort : MethodName := ⟨RJ18, "insertionSort", "([III)V"⟩
abbrev cJ18_tryMergeRuns : ByteArray := prog_46_method_9_code
def yJ18_tryMergeRuns : MethodName := ⟨RJ18, "tryMergeRuns", "(Ljava/util/DualPivotQuicksort$Sorter;[III)Z"⟩
abbrev cJ18_mergeRuns : ByteArray := prog_46_method_10_code
def yJ18_mergeRuns : MethodName := ⟨RJ18, "mergeRuns", "([I[IIIZ[III)[I"⟩
abbrev cJ18_mergeParts : ByteArray := prog_46_method_11_code
def yJ18_mergeParts : MethodName := ⟨RJ18, "mergeParts", "(Ljava/util/DualPivotQuicksort$Merger;[II[III[III)V"⟩
abbrev cJ18_heapSort : ByteArray := prog_46_method_7_code
def yJ18_heapSort : MethodName := ⟨RJ18, "heapSort", "([III)V"⟩
abbrev cJ18_pushDown : ByteArray := prog_46_method_8_code
def yJ18_pushDown : MethodName := ⟨RJ18, "pushDown", "([IIIII)V"⟩
def RJ19 : String := "java/lang/Object"
abbrev cJ19_init : ByteArray := object_method_1_code
def yJ19_init : MethodName := ⟨RJ19, "<init>", "()V"⟩
def RJ2 : String := "java/util/ArrayList"
def TJ2 : u_T := fun k => match k with
  | 0 => ("java/util/AbstractList", "modCount", "I", false)
  | 1 => ("java/util/ArrayList", "elementData", "[Ljava/lang/Object;", false)
  | _ => ("java/util/ArrayList", "size", "I", false)
def tyJ2 : Nat → FieldType := fun k => match k with
  | 0 => .int
  | 1 => .array (.object "java/lang/Object")
  | _ => .int
abbrev wsJ20 : List Cond := u_ws RJ2 TJ2 3
theorem nmJ2 : ∀ a, a < 3 → ∀ b, b < 3 → a ≠ b → (TJ2 a).2.1 ≠ (TJ2 b).2.1 := by decide +kernel
theorem tyJ2_ok : ∀ k, k < 3 → parseFieldDescriptor (TJ2 k).2.2.1 = some (tyJ2 k) := by decide +kernel
abbrev cJ2_init : ByteArray := prog_43_method_1_code
def yJ2_init : MethodName := ⟨RJ2, "<init>", "(I)V"⟩
abbrev cJ2_size : ByteArray := prog_43_method_8_code
def yJ2_size : MethodName := ⟨RJ2, "size", "()I"⟩
abbrev cJ2_add : ByteArray := prog_43_method_25_code
def yJ2_add : MethodName := ⟨RJ2, "add", "(Ljava/lang/Object;)Z"⟩
abbrev cJ2_add_2 : ByteArray := prog_43_method_24_code
def yJ2_add_2 : MethodName := ⟨RJ2, "add", "(Ljava/lang/Object;[Ljava/lang/Object;I)V"⟩
abbrev cJ2_grow : ByteArray := prog_43_method_7_code
def yJ2_grow : MethodName := ⟨RJ2, "grow", "()[Ljava/lang/Object;"⟩
abbrev cJ2_grow_2 : ByteArray := prog_43_method_6_code
def yJ2_grow_2 : MethodName := ⟨RJ2, "grow", "(I)[Ljava/lang/Object;"⟩
abbrev cJ2_get : ByteArray := prog_43_method_20_code
def yJ2_get : MethodName := ⟨RJ2, "get", "(I)Ljava/lang/Object;"⟩
abbrev cJ2_elementData : ByteArray := prog_43_method_18_code
def yJ2_elementData : MethodName := ⟨RJ2, "elementData", "(I)Ljava/lang/Object;"⟩
abbrev cJ2_isEmpty : ByteArray := prog_43_method_9_code
def yJ2_isEmpty : MethodName := ⟨RJ2, "isEmpty", "()Z"⟩
abbrev cJ2_set : ByteArray := prog_43_method_23_code
def yJ2_set : MethodName := ⟨RJ2, "set", "(ILjava/lang/Object;)Ljava/lang/Object;"⟩
abbrev cJ2_init_2 : ByteArray := prog_43_method_2_code
def yJ2_init_2 : MethodName := ⟨RJ2, "<init>", "()V"⟩
abbrev cJ2_clear : ByteArray := prog_43_method_40_code
def yJ2_clear : MethodName := ⟨RJ2, "clear", "()V"⟩
abbrev cJ2_addAll : ByteArray := prog_43_method_41_code
def yJ2_addAll : MethodName := ⟨RJ2, "addAll", "(Ljava/util/Collection;)Z"⟩
abbrev cJ2_toArray : ByteArray := prog_43_method_16_code
def yJ2_toArray : MethodName := ⟨RJ2, "toArray", "()[Ljava/lang/Object;"⟩
def RJ3 : String := "java/lang/Enum"
abbrev cJ3_ordinal : ByteArray := prog_26_method_2_code
def yJ3_ordinal : MethodName := ⟨RJ3, "ordinal", "()I"⟩
def RJ4 : String := "java/lang/AbstractStringBuilder"
abbrev cJ4_init : ByteArray := prog_21_method_2_code
def yJ4_init : MethodName := ⟨RJ4, "<init>", "(I)V"⟩
abbrev cJ4_length : ByteArray := prog_21_method_6_code
def yJ4_length : MethodName := ⟨RJ4, "length", "()I"⟩
abbrev cJ4_append : ByteArray := prog_21_method_31_code
def yJ4_append : MethodName := ⟨RJ4, "append", "(C)Ljava/lang/AbstractStringBuilder;"⟩
abbrev cJ4_ensureCapacityInternal : ByteArray := prog_21_method_9_code
def yJ4_ensureCapacityInternal : MethodName := ⟨RJ4, "ensureCapacityInternal", "(I)V"⟩
abbrev cJ4_newCapacity : ByteArray := prog_21_method_10_code
def yJ4_newCapacity : MethodName := ⟨RJ4, "newCapacity", "(I)I"⟩
abbrev cJ4_isLatin1 : ByteArray := prog_21_method_68_code
def yJ4_isLatin1 : MethodName := ⟨RJ4, "isLatin1", "()Z"⟩
abbrev cJ4_inflate : ByteArray := prog_21_method_11_code
def yJ4_inflate : MethodName := ⟨RJ4, "inflate", "()V"⟩
abbrev cJ4_getValue : ByteArray := prog_21_method_64_code
def yJ4_getValue : MethodName := ⟨RJ4, "getValue", "()[B"⟩
def RJ5 : String := "java/lang/StringBuilder"
def TJ5 : u_T := fun k => match k with
  | 0 => ("java/lang/AbstractStringBuilder", "value", "[B", false)
  | 1 => ("java/lang/AbstractStringBuilder", "coder", "B", false)
  | 2 => ("java/lang/AbstractStringBuilder", "maybeLatin1", "Z", false)
  | _ => ("java/lang/AbstractStringBuilder", "count", "I", false)
def tyJ5 : Nat → FieldType := fun k => match k with
  | 0 => .array .byte
  | 1 => .byte
  | 2 => .boolean
  | _ => .int
abbrev wsJ50 : List Cond := u_ws RJ5 TJ5 4
theorem nmJ5 : ∀ a, a < 4 → ∀ b, b < 4 → a ≠ b → (TJ5 a).2.1 ≠ (TJ5 b).2.1 := by decide +kernel
theorem tyJ5_ok : ∀ k, k < 4 → parseFieldDescriptor (TJ5 k).2.2.1 = some (tyJ5 k) := by decide +kernel
abbrev cJ5_init : ByteArray := prog_34_method_2_code
def yJ5_init : MethodName := ⟨RJ5, "<init>", "(I)V"⟩
abbrev cJ5_length : ByteArray := prog_34_method_93_code
def yJ5_length : MethodName := ⟨RJ5, "length", "()I"⟩
abbrev cJ5_append : ByteArray := prog_34_method_14_code
def yJ5_append : MethodName := ⟨RJ5, "append", "(C)Ljava/lang/StringBuilder;"⟩
abbrev cJ5_toString : ByteArray := prog_34_method_42_code
def yJ5_toString : MethodName := ⟨RJ5, "toString", "()Ljava/lang/String;"⟩
def RJ6 : String := "java/lang/String"
def TJ6 : u_T := fun k => match k with
  | 0 => ("java/lang/String", "value", "[B", true)
  | 1 => ("java/lang/String", "coder", "B", true)
  | 2 => ("java/lang/String", "hash", "I", false)
  | _ => ("java/lang/String", "hashIsZero", "Z", false)
def tyJ6 : Nat → FieldType := fun k => match k with
  | 0 => .array .byte
  | 1 => .byte
  | 2 => .int
  | _ => .boolean
abbrev wsJ60 : List Cond := u_ws RJ6 TJ6 4
theorem nmJ6 : ∀ a, a < 4 → ∀ b, b < 4 → a ≠ b → (TJ6 a).2.1 ≠ (TJ6 b).2.1 := by decide +kernel
theorem tyJ6_ok : ∀ k, k < 4 → parseFieldDescriptor (TJ6 k).2.2.1 = some (tyJ6 k) := by decide +kernel
abbrev cJ6_checkBoundsOffCount : ByteArray := prog_33_method_157_code
def yJ6_checkBoundsOffCount : MethodName := ⟨RJ6, "checkBoundsOffCount", "(III)I"⟩
abbrev cJ6_checkIndex : ByteArray := prog_33_method_155_code
def yJ6_checkIndex : MethodName := ⟨RJ6, "checkIndex", "(II)V"⟩
abbrev cJ6_init : ByteArray := prog_33_method_53_code
def yJ6_init : MethodName := ⟨RJ6, "<init>", "(Ljava/lang/StringBuilder;)V"⟩
abbrev cJ6_init_2 : ByteArray := prog_33_method_150_code
def yJ6_init_2 : MethodName := ⟨RJ6, "<init>", "(Ljava/lang/AbstractStringBuilder;Ljava/lang/Void;)V"⟩
abbrev cJ6_equals : ByteArray := prog_33_method_66_code
def yJ6_equals : MethodName := ⟨RJ6, "equals", "(Ljava/lang/Object;)Z"⟩
def RJ7 : String := "java/lang/StringUTF16"
abbrev cJ7_newBytesFor : ByteArray := prog_36_method_2_code
def yJ7_newBytesFor : MethodName := ⟨RJ7, "newBytesFor", "(I)[B"⟩
abbrev cJ7_newBytesLength : ByteArray := prog_36_method_3_code
def yJ7_newBytesLength : MethodName := ⟨RJ7, "newBytesLength", "(I)I"⟩
abbrev cJ7_inflate : ByteArray := prog_36_method_86_code
def yJ7_inflate : MethodName := ⟨RJ7, "inflate", "([BI[BII)V"⟩
abbrev cJ7_checkBoundsOffCount : ByteArray := prog_36_method_94_code
def yJ7_checkBoundsOffCount : MethodName := ⟨RJ7, "checkBoundsOffCount", "(II[B)V"⟩
abbrev cJ7_length : ByteArray := prog_36_method_6_code
def yJ7_length : MethodName := ⟨RJ7, "length", "([B)I"⟩
abbrev cJ7_putChar : ByteArray := prog_36_method_4_code
def yJ7_putChar : MethodName := ⟨RJ7, "putChar", "([BII)V"⟩
abbrev cJ7_putCharSB : ByteArray := prog_36_method_71_code
def yJ7_putCharSB : MethodName := ⟨RJ7, "putCharSB", "([BII)V"⟩
abbrev cJ7_checkIndex : ByteArray := prog_36_method_91_code
def yJ7_checkIndex : MethodName := ⟨RJ7, "checkIndex", "(I[B)V"⟩
abbrev cJ7_compress : ByteArray := prog_36_method_17_code
def yJ7_compress : MethodName := ⟨RJ7, "compress", "([BII)[B"⟩
abbrev cJ7_compress_2 : ByteArray := prog_36_method_22_code
def yJ7_compress_2 : MethodName := ⟨RJ7, "compress", "([BI[BII)I"⟩
abbrev cJ7_getChar : ByteArray := prog_36_method_5_code
def yJ7_getChar : MethodName := ⟨RJ7, "getChar", "([BI)C"⟩
abbrev cJ7_coderFromArrayLen : ByteArray := prog_36_method_15_code
def yJ7_coderFromArrayLen : MethodName := ⟨RJ7, "coderFromArrayLen", "([BI)B"⟩
def RJ8 : String := "jdk/internal/util/ArraysSupport"
abbrev cJ8_newLength : ByteArray := prog_51_method_27_code
def yJ8_newLength : MethodName := ⟨RJ8, "newLength", "(III)I"⟩
abbrev cJ8_hugeLength : ByteArray := prog_51_method_28_code
def yJ8_hugeLength : MethodName := ⟨RJ8, "hugeLength", "(II)I"⟩
def RJ9 : String := "java/lang/Math"
abbrev cJ9_max : ByteArray := prog_31_method_65_code
def yJ9_max : MethodName := ⟨RJ9, "max", "(II)I"⟩
abbrev cJ9_min : ByteArray := prog_31_method_69_code
def yJ9_min : MethodName := ⟨RJ9, "min", "(II)I"⟩
abbrev cJ9_abs : ByteArray := prog_31_method_59_code
def yJ9_abs : MethodName := ⟨RJ9, "abs", "(I)I"⟩
abbrev cL_law : ByteArray := code
def RX0 : String := "TouchShelf"
def TX0 : u_T := fun k => match k with
  | 0 => ("TouchShelf", "now", "LTouchShelf$State;", true)
  | 1 => ("TouchShelf", "kept", "[LTouchShelf$State;", true)
  | 2 => ("TouchShelf", "sets", "LTouchShelf$Sets;", true)
  | _ => ("TouchShelf", "slides", "LTouchShelf$Slides;", false)
def tyX0 : Nat → FieldType := fun k => match k with
  | 0 => .object "TouchShelf$State"
  | 1 => .array (.object "TouchShelf$State")
  | 2 => .object "TouchShelf$Sets"
  | _ => .object "TouchShelf$Slides"
abbrev wsX00 : List Cond := u_ws RX0 TX0 4
theorem nmX0 : ∀ a, a < 4 → ∀ b, b < 4 → a ≠ b → (TX0 a).2.1 ≠ (TX0 b).2.1 := by decide +kernel
theorem tyX0_ok : ∀ k, k < 4 → parseFieldDescriptor (TX0 k).2.2.1 = some (tyX0 k) := by decide +kernel
abbrev cX0_init : ByteArray := prog_1_method_5_code
def yX0_init : MethodName := ⟨RX0, "<init>", "()V"⟩
abbrev cX0_feed : ByteArray := prog_1_method_11_code
def yX0_feed : MethodName := ⟨RX0, "feed", "(IIIII)I"⟩
abbrev cX0_end : ByteArray := prog_1_method_12_code
def yX0_end : MethodName := ⟨RX0, "end", "(I)I"⟩
abbrev cX0_text : ByteArray := prog_1_method_15_code
def yX0_text : MethodName := ⟨RX0, "text", "(II)I"⟩
abbrev cX0_isIn : ByteArray := prog_1_method_1_code
def yX0_isIn : MethodName := ⟨RX0, "isIn", "(III)Z"⟩
abbrev cX0_is : ByteArray := prog_1_method_6_code
def yX0_is : MethodName := ⟨RX0, "is", "(II)Z"⟩
abbrev cX0_reads : ByteArray := prog_1_method_14_code
def yX0_reads : MethodName := ⟨RX0, "reads", "(III)I"⟩
abbrev cX0_puts : ByteArray := prog_1_method_13_code
def yX0_puts : MethodName := ⟨RX0, "puts", "(Ljava/util/ArrayList;ILjava/lang/Object;)I"⟩
abbrev cX0_fault : ByteArray := prog_1_method_16_code
def yX0_fault : MethodName := ⟨RX0, "fault", "(I)I"⟩
abbrev cX0_library : ByteArray := prog_1_method_19_code
def yX0_library : MethodName := ⟨RX0, "library", "(II)I"⟩
abbrev cX0_library_2 : ByteArray := prog_1_method_7_code
def yX0_library_2 : MethodName := ⟨RX0, "library", "(I)LTouchShelf$Library;"⟩
abbrev cX0_has : ByteArray := prog_1_method_2_code
def yX0_has : MethodName := ⟨RX0, "has", "(JI)Z"⟩
abbrev cX0_off : ByteArray := prog_1_method_4_code
def yX0_off : MethodName := ⟨RX0, "off", "(II)I"⟩
abbrev cX0_even : ByteArray := prog_1_method_18_code
def yX0_even : MethodName := ⟨RX0, "even", "(LTouchShelf$Library;)I"⟩
abbrev cX0_evens : ByteArray := prog_1_method_17_code
def yX0_evens : MethodName := ⟨RX0, "evens", "(LTouchShelf$Library;II)I"⟩
abbrev cX0_shelf : ByteArray := prog_1_method_21_code
def yX0_shelf : MethodName := ⟨RX0, "shelf", "(III)I"⟩
abbrev cX0_isShelf : ByteArray := prog_1_method_8_code
def yX0_isShelf : MethodName := ⟨RX0, "isShelf", "(II)Z"⟩
abbrev cX0_slides : ByteArray := prog_1_method_20_code
def yX0_slides : MethodName := ⟨RX0, "slides", "(LTouchShelf$Shelf;)LTouchShelf$Slides;"⟩
abbrev cX0_place : ByteArray := prog_1_method_22_code
def yX0_place : MethodName := ⟨RX0, "place", "(III)I"⟩
abbrev cX0_isPlace : ByteArray := prog_1_method_9_code
def yX0_isPlace : MethodName := ⟨RX0, "isPlace", "(III)Z"⟩
abbrev cX0_off_2 : ByteArray := prog_1_method_23_code
def yX0_off_2 : MethodName := ⟨RX0, "off", "(IIIZ)I"⟩
abbrev cX0_isMark : ByteArray := prog_1_method_10_code
def yX0_isMark : MethodName := ⟨RX0, "isMark", "(II)Z"⟩
abbrev cX0_readings : ByteArray := prog_1_method_25_code
def yX0_readings : MethodName := ⟨RX0, "readings", "(III)J"⟩
abbrev cX0_wide : ByteArray := prog_1_method_24_code
def yX0_wide : MethodName := ⟨RX0, "wide", "(I)J"⟩
abbrev cX0_between : ByteArray := prog_1_method_26_code
def yX0_between : MethodName := ⟨RX0, "between", "(IIII)J"⟩
abbrev cX0_fresh : ByteArray := prog_1_method_27_code
def yX0_fresh : MethodName := ⟨RX0, "fresh", "(II)I"⟩
abbrev cX0_set : ByteArray := prog_1_method_29_code
def yX0_set : MethodName := ⟨RX0, "set", "(IIZI)I"⟩
abbrev cX0_ofSet : ByteArray := prog_1_method_28_code
def yX0_ofSet : MethodName := ⟨RX0, "ofSet", "(II)I"⟩
abbrev cX0_pairs : ByteArray := prog_1_method_30_code
def yX0_pairs : MethodName := ⟨RX0, "pairs", "(II)I"⟩
abbrev cX0_tells : ByteArray := prog_1_method_31_code
def yX0_tells : MethodName := ⟨RX0, "tells", "(I)I"⟩
abbrev cX0_nearest : ByteArray := prog_1_method_32_code
def yX0_nearest : MethodName := ⟨RX0, "nearest", "(III)I"⟩
abbrev cX0_walk : ByteArray := prog_1_method_33_code
def yX0_walk : MethodName := ⟨RX0, "walk", "(IIII)I"⟩
abbrev cX0_halving : ByteArray := prog_1_method_34_code
def yX0_halving : MethodName := ⟨RX0, "halving", "(IIIZ)I"⟩
abbrev cX0_hardest : ByteArray := prog_1_method_35_code
def yX0_hardest : MethodName := ⟨RX0, "hardest", "(III)I"⟩
abbrev cX0_mean : ByteArray := prog_1_method_39_code
def yX0_mean : MethodName := ⟨RX0, "mean", "(IIZ)I"⟩
abbrev cX0_weights : ByteArray := prog_1_method_37_code
def yX0_weights : MethodName := ⟨RX0, "weights", "(LTouchShelf$Library;)I"⟩
abbrev cX0_isOrder : ByteArray := prog_1_method_38_code
def yX0_isOrder : MethodName := ⟨RX0, "isOrder", "(LTouchShelf$Library;I)Z"⟩
abbrev cX0_felt : ByteArray := prog_1_method_36_code
def yX0_felt : MethodName := ⟨RX0, "felt", "(LTouchShelf$Library;I)J"⟩
abbrev cX0_common : ByteArray := prog_1_method_3_code
def yX0_common : MethodName := ⟨RX0, "common", "(JJ)J"⟩
abbrev cX0_best : ByteArray := prog_1_method_40_code
def yX0_best : MethodName := ⟨RX0, "best", "(II)I"⟩
abbrev cX0_insert : ByteArray := prog_1_method_41_code
def yX0_insert : MethodName := ⟨RX0, "insert", "(III)I"⟩
abbrev cX0_swaps : ByteArray := prog_1_method_42_code
def yX0_swaps : MethodName := ⟨RX0, "swaps", "(III)I"⟩
abbrev cX0_deed : ByteArray := prog_1_method_43_code
def yX0_deed : MethodName := ⟨RX0, "deed", "(III)I"⟩
abbrev cX0_stop : ByteArray := prog_1_method_44_code
def yX0_stop : MethodName := ⟨RX0, "stop", "(II)I"⟩
abbrev cX0_lies : ByteArray := prog_1_method_46_code
def yX0_lies : MethodName := ⟨RX0, "lies", "(IIIII)I"⟩
abbrev cX0_state : ByteArray := prog_1_method_45_code
def yX0_state : MethodName := ⟨RX0, "state", "(III)LTouchShelf$Course;"⟩
abbrev cX0_state_2 : ByteArray := prog_1_method_49_code
def yX0_state_2 : MethodName := ⟨RX0, "state", "(IIII)J"⟩
abbrev cX0_moved : ByteArray := prog_1_method_47_code
def yX0_moved : MethodName := ⟨RX0, "moved", "(LTouchShelf$Library;LTouchShelf$Library;)I"⟩
abbrev cX0_inOrder : ByteArray := prog_1_method_48_code
def yX0_inOrder : MethodName := ⟨RX0, "inOrder", "(LTouchShelf$Library;)I"⟩
abbrev cX0_may : ByteArray := prog_1_method_50_code
def yX0_may : MethodName := ⟨RX0, "may", "(IIIIIZ)J"⟩
abbrev cX0_hands : ByteArray := prog_1_method_51_code
def yX0_hands : MethodName := ⟨RX0, "hands", "(III)I"⟩
abbrev cX0_round : ByteArray := prog_1_method_52_code
def yX0_round : MethodName := ⟨RX0, "round", "(II)I"⟩
abbrev cX0_drawn : ByteArray := prog_1_method_54_code
def yX0_drawn : MethodName := ⟨RX0, "drawn", "(IIIII)I"⟩
abbrev cX0_worn : ByteArray := prog_1_method_53_code
def yX0_worn : MethodName := ⟨RX0, "worn", "(LTouchShelf$Library;IILTouchShelf$Dice;)I"⟩
abbrev cX0_count : ByteArray := prog_1_method_55_code
def yX0_count : MethodName := ⟨RX0, "count", "(I)I"⟩
abbrev cX0_image : ByteArray := prog_1_method_56_code
def yX0_image : MethodName := ⟨RX0, "image", "(I)Z"⟩
abbrev cX0_again : ByteArray := prog_1_method_57_code
def yX0_again : MethodName := ⟨RX0, "again", "(I)Z"⟩
def RX1 : String := "TouchShelf$State"
def TX1 : u_T := fun k => match k with
  | 0 => ("TouchShelf$State", "tape", "[B", true)
  | 1 => ("TouchShelf$State", "taped", "I", false)
  | 2 => ("TouchShelf$State", "faultKind", "I", false)
  | 3 => ("TouchShelf$State", "faultPlace", "I", false)
  | 4 => ("TouchShelf$State", "libraries", "Ljava/util/ArrayList;", true)
  | 5 => ("TouchShelf$State", "daybooks", "Ljava/util/ArrayList;", true)
  | _ => ("TouchShelf$State", "rounds", "Ljava/util/ArrayList;", true)
def tyX1 : Nat → FieldType := fun k => match k with
  | 0 => .array .byte
  | 1 => .int
  | 2 => .int
  | 3 => .int
  | 4 => .object "java/util/ArrayList"
  | 5 => .object "java/util/ArrayList"
  | _ => .object "java/util/ArrayList"
abbrev wsX10 : List Cond := u_ws RX1 TX1 7
theorem nmX1 : ∀ a, a < 7 → ∀ b, b < 7 → a ≠ b → (TX1 a).2.1 ≠ (TX1 b).2.1 := by decide +kernel
theorem tyX1_ok : ∀ k, k < 7 → parseFieldDescriptor (TX1 k).2.2.1 = some (tyX1 k) := by decide +kernel
abbrev cX1_init : ByteArray := prog_16_method_1_code
def yX1_init : MethodName := ⟨RX1, "<init>", "()V"⟩
abbrev cX1_many : ByteArray := prog_16_method_3_code
def yX1_many : MethodName := ⟨RX1, "many", "(I)I"⟩
abbrev cX1_be : ByteArray := prog_16_method_2_code
def yX1_be : MethodName := ⟨RX1, "be", "(LTouchShelf$State;)V"⟩
def RX10 : String := "TouchShelf$Shelf"
def TX10 : u_T := fun k => match k with
  | 0 => ("TouchShelf$Shelf", "mark", "[I", true)
  | _ => ("TouchShelf$Shelf", "weight", "I", false)
def tyX10 : Nat → FieldType := fun k => match k with
  | 0 => .array .int
  | _ => .int
abbrev wsX100 : List Cond := u_ws RX10 TX10 2
theorem nmX10 : ∀ a, a < 2 → ∀ b, b < 2 → a ≠ b → (TX10 a).2.1 ≠ (TX10 b).2.1 := by decide +kernel
theorem tyX10_ok : ∀ k, k < 2 → parseFieldDescriptor (TX10 k).2.2.1 = some (tyX10 k) := by decide +kernel
abbrev cX10_init : ByteArray := prog_14_method_1_code
def yX10_init : MethodName := ⟨RX10, "<init>", "([I)V"⟩
abbrev cX10_isTablet : ByteArray := prog_14_method_3_code
def yX10_isTablet : MethodName := ⟨RX10, "isTablet", "(I)Z"⟩
abbrev cX10_tablets : ByteArray := prog_14_method_4_code
def yX10_tablets : MethodName := ⟨RX10, "tablets", "()I"⟩
abbrev cX10_turned : ByteArray := prog_14_method_6_code
def yX10_turned : MethodName := ⟨RX10, "turned", "()I"⟩
abbrev cX10_row : ByteArray := prog_14_method_5_code
def yX10_row : MethodName := ⟨RX10, "row", "()[I"⟩
abbrev cX10_longest : ByteArray := prog_14_method_7_code
def yX10_longest : MethodName := ⟨RX10, "longest", "()I"⟩
abbrev cX10_halving : ByteArray := prog_14_method_9_code
def yX10_halving : MethodName := ⟨RX10, "halving", "(I)I"⟩
abbrev cX10_hole : ByteArray := prog_14_method_8_code
def yX10_hole : MethodName := ⟨RX10, "hole", "()I"⟩
abbrev cX10_copy : ByteArray := prog_14_method_2_code
def yX10_copy : MethodName := ⟨RX10, "copy", "()LTouchShelf$Shelf;"⟩
def RX11 : String := "TouchShelf$RoundReader"
def TX11 : u_T := fun k => match k with
  | 0 => ("TouchShelf$Reader", "tape", "[B", true)
  | 1 => ("TouchShelf$Reader", "size", "I", true)
  | 2 => ("TouchShelf$Reader", "next", "I", false)
  | 3 => ("TouchShelf$Reader", "place", "I", false)
  | 4 => ("TouchShelf$Reader", "value", "I", false)
  | 5 => ("TouchShelf$Reader", "token", "LTouchShelf$Token;", false)
  | 6 => ("TouchShelf$Reader", "text", "Ljava/lang/String;", false)
  | 7 => ("TouchShelf$Reader", "also", "LTouchShelf$Fault;", false)
  | _ => ("TouchShelf$RoundReader", "round", "LTouchShelf$Round;", true)
def tyX11 : Nat → FieldType := fun k => match k with
  | 0 => .array .byte
  | 1 => .int
  | 2 => .int
  | 3 => .int
  | 4 => .int
  | 5 => .object "TouchShelf$Token"
  | 6 => .object "java/lang/String"
  | 7 => .object "TouchShelf$Fault"
  | _ => .object "TouchShelf$Round"
abbrev wsX110 : List Cond := u_ws RX11 TX11 9
theorem nmX11 : ∀ a, a < 9 → ∀ b, b < 9 → a ≠ b → (TX11 a).2.1 ≠ (TX11 b).2.1 := by decide +kernel
theorem tyX11_ok : ∀ k, k < 9 → parseFieldDescriptor (TX11 k).2.2.1 = some (tyX11 k) := by decide +kernel
abbrev cX11_line : ByteArray := prog_12_method_4_code
def yX11_line : MethodName := ⟨RX11, "line", "()V"⟩
abbrev cX11_isWhole : ByteArray := prog_12_method_3_code
def yX11_isWhole : MethodName := ⟨RX11, "isWhole", "()Z"⟩
abbrev cX11_init : ByteArray := prog_12_method_1_code
def yX11_init : MethodName := ⟨RX11, "<init>", "([BI)V"⟩
abbrev cX11_read : ByteArray := prog_12_method_2_code
def yX11_read : MethodName := ⟨RX11, "read", "()LTouchShelf$Round;"⟩
def RX12 : String := "TouchShelf$Round"
def TX12 : u_T := fun k => match k with
  | 0 => ("TouchShelf$Round", "readers", "Ljava/util/ArrayList;", true)
  | 1 => ("TouchShelf$Round", "asks", "Ljava/util/ArrayList;", true)
  | _ => ("TouchShelf$Round", "least", "[[I", false)
def tyX12 : Nat → FieldType := fun k => match k with
  | 0 => .object "java/util/ArrayList"
  | 1 => .object "java/util/ArrayList"
  | _ => .array (.array .int)
abbrev wsX120 : List Cond := u_ws RX12 TX12 3
theorem nmX12 : ∀ a, a < 3 → ∀ b, b < 3 → a ≠ b → (TX12 a).2.1 ≠ (TX12 b).2.1 := by decide +kernel
theorem tyX12_ok : ∀ k, k < 3 → parseFieldDescriptor (TX12 k).2.2.1 = some (tyX12 k) := by decide +kernel
abbrev cX12_init : ByteArray := prog_11_method_1_code
def yX12_init : MethodName := ⟨RX12, "<init>", "()V"⟩
abbrev cX12_who : ByteArray := prog_11_method_8_code
def yX12_who : MethodName := ⟨RX12, "who", "(I)I"⟩
abbrev cX12_begins : ByteArray := prog_11_method_6_code
def yX12_begins : MethodName := ⟨RX12, "begins", "()V"⟩
abbrev cX12_starts : ByteArray := prog_11_method_3_code
def yX12_starts : MethodName := ⟨RX12, "starts", "()[I"⟩
abbrev cX12_steps : ByteArray := prog_11_method_4_code
def yX12_steps : MethodName := ⟨RX12, "steps", "(I[I)I"⟩
abbrev cX12_index : ByteArray := prog_11_method_2_code
def yX12_index : MethodName := ⟨RX12, "index", "([I)I"⟩
abbrev cX12_by : ByteArray := prog_11_method_5_code
def yX12_by : MethodName := ⟨RX12, "by", "(I[II)I"⟩
abbrev cX12_serve : ByteArray := prog_11_method_7_code
def yX12_serve : MethodName := ⟨RX12, "serve", "()I"⟩
abbrev cX12_greedy : ByteArray := prog_11_method_9_code
def yX12_greedy : MethodName := ⟨RX12, "greedy", "()I"⟩
def RX13 : String := "TouchShelf$Slides"
def TX13 : u_T := fun k => match k with
  | 0 => ("TouchShelf$Slides", "table", "[J", true)
  | 1 => ("TouchShelf$Slides", "line", "[J", true)
  | 2 => ("TouchShelf$Slides", "far", "[B", true)
  | 3 => ("TouchShelf$Slides", "many", "I", false)
  | _ => ("TouchShelf$Slides", "places", "I", false)
def tyX13 : Nat → FieldType := fun k => match k with
  | 0 => .array .long
  | 1 => .array .long
  | 2 => .array .byte
  | 3 => .int
  | _ => .int
abbrev wsX130 : List Cond := u_ws RX13 TX13 5
theorem nmX13 : ∀ a, a < 5 → ∀ b, b < 5 → a ≠ b → (TX13 a).2.1 ≠ (TX13 b).2.1 := by decide +kernel
theorem tyX13_ok : ∀ k, k < 5 → parseFieldDescriptor (TX13 k).2.2.1 = some (tyX13 k) := by decide +kernel
abbrev cX13_init : ByteArray := prog_15_method_1_code
def yX13_init : MethodName := ⟨RX13, "<init>", "()V"⟩
abbrev cX13_of : ByteArray := prog_15_method_8_code
def yX13_of : MethodName := ⟨RX13, "of", "(LTouchShelf$Shelf;)LTouchShelf$Slides;"⟩
abbrev cX13_ends : ByteArray := prog_15_method_7_code
def yX13_ends : MethodName := ⟨RX13, "ends", "([I)V"⟩
abbrev cX13_code : ByteArray := prog_15_method_2_code
def yX13_code : MethodName := ⟨RX13, "code", "([I)J"⟩
abbrev cX13_meets : ByteArray := prog_15_method_4_code
def yX13_meets : MethodName := ⟨RX13, "meets", "(JI)V"⟩
abbrev cX13_at : ByteArray := prog_15_method_3_code
def yX13_at : MethodName := ⟨RX13, "at", "(J)I"⟩
abbrev cX13_of_2 : ByteArray := prog_15_method_5_code
def yX13_of_2 : MethodName := ⟨RX13, "of", "(JI)I"⟩
abbrev cX13_slid : ByteArray := prog_15_method_6_code
def yX13_slid : MethodName := ⟨RX13, "slid", "(JII)J"⟩
abbrev cX13_many : ByteArray := prog_15_method_9_code
def yX13_many : MethodName := ⟨RX13, "many", "([I)I"⟩
abbrev cX13_first : ByteArray := prog_15_method_10_code
def yX13_first : MethodName := ⟨RX13, "first", "([I)I"⟩
def RX14 : String := "TouchShelf$Course"
def TX14 : u_T := fun k => match k with
  | 0 => ("TouchShelf$Course", "at", "LTouchShelf$Library;", true)
  | 1 => ("TouchShelf$Course", "may", "[[I", true)
  | 2 => ("TouchShelf$Course", "lent", "[I", true)
  | 3 => ("TouchShelf$Course", "done", "I", false)
  | 4 => ("TouchShelf$Course", "wrong", "I", false)
  | 5 => ("TouchShelf$Course", "firstWrong", "I", false)
  | 6 => ("TouchShelf$Course", "hands", "I", false)
  | 7 => ("TouchShelf$Course", "handShelf", "I", false)
  | _ => ("TouchShelf$Course", "handPlace", "I", false)
def tyX14 : Nat → FieldType := fun k => match k with
  | 0 => .object "TouchShelf$Library"
  | 1 => .array (.array .int)
  | 2 => .array .int
  | 3 => .int
  | 4 => .int
  | 5 => .int
  | 6 => .int
  | 7 => .int
  | _ => .int
abbrev wsX140 : List Cond := u_ws RX14 TX14 9
theorem nmX14 : ∀ a, a < 9 → ∀ b, b < 9 → a ≠ b → (TX14 a).2.1 ≠ (TX14 b).2.1 := by decide +kernel
theorem tyX14_ok : ∀ k, k < 9 → parseFieldDescriptor (TX14 k).2.2.1 = some (tyX14 k) := by decide +kernel
abbrev cX14_init : ByteArray := prog_2_method_1_code
def yX14_init : MethodName := ⟨RX14, "<init>", "(LTouchShelf$Library;)V"⟩
abbrev cX14_goes : ByteArray := prog_2_method_7_code
def yX14_goes : MethodName := ⟨RX14, "goes", "(Ljava/util/ArrayList;I)LTouchShelf$Course;"⟩
abbrev cX14_can : ByteArray := prog_2_method_2_code
def yX14_can : MethodName := ⟨RX14, "can", "(LTouchShelf$Deed;)Z"⟩
abbrev cX14_does : ByteArray := prog_2_method_6_code
def yX14_does : MethodName := ⟨RX14, "does", "(LTouchShelf$Deed;)V"⟩
abbrev cX14_goesTo : ByteArray := prog_2_method_4_code
def yX14_goesTo : MethodName := ⟨RX14, "goesTo", "(II)V"⟩
abbrev cX14_changes : ByteArray := prog_2_method_3_code
def yX14_changes : MethodName := ⟨RX14, "changes", "(III)V"⟩
abbrev cX14_feels : ByteArray := prog_2_method_5_code
def yX14_feels : MethodName := ⟨RX14, "feels", "(LTouchShelf$Deed;)V"⟩
abbrev cX14_lent : ByteArray := prog_2_method_8_code
def yX14_lent : MethodName := ⟨RX14, "lent", "()J"⟩
abbrev cX14_sure : ByteArray := prog_2_method_9_code
def yX14_sure : MethodName := ⟨RX14, "sure", "()I"⟩
def RX15 : String := "TouchShelf$Dice"
def TX15 : u_T := fun k => match k with
  | _ => ("TouchShelf$Dice", "x", "I", false)
def tyX15 : Nat → FieldType := fun k => match k with
  | _ => .int
abbrev wsX150 : List Cond := u_ws RX15 TX15 1
theorem nmX15 : ∀ a, a < 1 → ∀ b, b < 1 → a ≠ b → (TX15 a).2.1 ≠ (TX15 b).2.1 := by decide +kernel
theorem tyX15_ok : ∀ k, k < 1 → parseFieldDescriptor (TX15 k).2.2.1 = some (tyX15 k) := by decide +kernel
abbrev cX15_init : ByteArray := prog_5_method_1_code
def yX15_init : MethodName := ⟨RX15, "<init>", "(I)V"⟩
abbrev cX15_below : ByteArray := prog_5_method_2_code
def yX15_below : MethodName := ⟨RX15, "below", "(I)I"⟩
def RX2 : String := "TouchShelf$Sets"
def TX2 : u_T := fun k => match k with
  | 0 => ("TouchShelf$Sets", "near", "[I", true)
  | 1 => ("TouchShelf$Sets", "best", "I", false)
  | _ => ("TouchShelf$Sets", "size", "I", false)
def tyX2 : Nat → FieldType := fun k => match k with
  | 0 => .array .int
  | 1 => .int
  | _ => .int
abbrev wsX20 : List Cond := u_ws RX2 TX2 3
theorem nmX2 : ∀ a, a < 3 → ∀ b, b < 3 → a ≠ b → (TX2 a).2.1 ≠ (TX2 b).2.1 := by decide +kernel
theorem tyX2_ok : ∀ k, k < 3 → parseFieldDescriptor (TX2 k).2.2.1 = some (tyX2 k) := by decide +kernel
abbrev cX2_init : ByteArray := prog_13_method_1_code
def yX2_init : MethodName := ⟨RX2, "<init>", "()V"⟩
abbrev cX2_most : ByteArray := prog_13_method_2_code
def yX2_most : MethodName := ⟨RX2, "most", "(IIII)I"⟩
abbrev cX2_grows : ByteArray := prog_13_method_3_code
def yX2_grows : MethodName := ⟨RX2, "grows", "(II)V"⟩
def RX3 : String := "TouchShelfModel"
def TX3 : u_T := fun k => match k with
  | 0 => ("TouchShelfModel", "code", "I", false)
  | 1 => ("TouchShelfModel", "tape", "[B", true)
  | 2 => ("TouchShelfModel", "size", "[I", true)
  | 3 => ("TouchShelfModel", "fault", "[I", true)
  | 4 => ("TouchShelfModel", "faultPlace", "[I", true)
  | 5 => ("TouchShelfModel", "many", "[I", true)
  | 6 => ("TouchShelfModel", "libraries", "[I", true)
  | 7 => ("TouchShelfModel", "books", "[I", true)
  | 8 => ("TouchShelfModel", "rounds", "[I", true)
  | 9 => ("TouchShelfModel", "reached", "I", false)
  | 10 => ("TouchShelfModel", "length", "I", false)
  | 11 => ("TouchShelfModel", "begins", "I", false)
  | 12 => ("TouchShelfModel", "sort", "I", false)
  | 13 => ("TouchShelfModel", "value", "I", false)
  | 14 => ("TouchShelfModel", "word", "J", false)
  | 15 => ("TouchShelfModel", "wrongAt", "I", false)
  | 16 => ("TouchShelfModel", "laterFault", "I", false)
  | 17 => ("TouchShelfModel", "laterPlace", "I", false)
  | 18 => ("TouchShelfModel", "told", "[I", true)
  | 19 => ("TouchShelfModel", "read", "[I", true)
  | 20 => ("TouchShelfModel", "greatest", "I", false)
  | 21 => ("TouchShelfModel", "bits", "I", false)
  | 22 => ("TouchShelfModel", "wear", "I", false)
  | 23 => ("TouchShelfModel", "rate", "I", false)
  | 24 => ("TouchShelfModel", "shelves", "I", false)
  | 25 => ("TouchShelfModel", "places", "[I", true)
  | 26 => ("TouchShelfModel", "weight", "[I", true)
  | 27 => ("TouchShelfModel", "mark", "[I", true)
  | 28 => ("TouchShelfModel", "begun", "[I", true)
  | 29 => ("TouchShelfModel", "known", "[J", true)
  | 30 => ("TouchShelfModel", "far", "[B", true)
  | 31 => ("TouchShelfModel", "queue", "[J", true)
  | 32 => ("TouchShelfModel", "cells", "[I", true)
  | 33 => ("TouchShelfModel", "sorted", "[I", true)
  | 34 => ("TouchShelfModel", "wide", "I", false)
  | 35 => ("TouchShelfModel", "queued", "I", false)
  | 36 => ("TouchShelfModel", "firstFrom", "I", false)
  | 37 => ("TouchShelfModel", "firstTo", "I", false)
  | 38 => ("TouchShelfModel", "row", "I", false)
  | 39 => ("TouchShelfModel", "rowMark", "[I", true)
  | 40 => ("TouchShelfModel", "rises", "[I", true)
  | 41 => ("TouchShelfModel", "near", "[J", true)
  | 42 => ("TouchShelfModel", "left", "[J", true)
  | 43 => ("TouchShelfModel", "chosen", "[I", true)
  | 44 => ("TouchShelfModel", "bestSet", "J", false)
  | 45 => ("TouchShelfModel", "order", "[I", true)
  | 46 => ("TouchShelfModel", "book", "I", false)
  | 47 => ("TouchShelfModel", "felt", "[J", true)
  | 48 => ("TouchShelfModel", "lent", "[I", true)
  | 49 => ("TouchShelfModel", "wrong", "I", false)
  | 50 => ("TouchShelfModel", "firstWrong", "I", false)
  | 51 => ("TouchShelfModel", "steps", "I", false)
  | 52 => ("TouchShelfModel", "handShelf", "I", false)
  | 53 => ("TouchShelfModel", "handPlace", "I", false)
  | 54 => ("TouchShelfModel", "cost", "[I", true)
  | 55 => ("TouchShelfModel", "readers", "I", false)
  | 56 => ("TouchShelfModel", "asks", "I", false)
  | 57 => ("TouchShelfModel", "spot", "[I", true)
  | 58 => ("TouchShelfModel", "ask", "[I", true)
  | 59 => ("TouchShelfModel", "who", "[I", true)
  | 60 => ("TouchShelfModel", "seed", "I", false)
  | _ => ("TouchShelfModel", "kept", "[Z", true)
def tyX3 : Nat → FieldType := fun k => match k with
  | 0 => .int
  | 1 => .array .byte
  | 2 => .array .int
  | 3 => .array .int
  | 4 => .array .int
  | 5 => .array .int
  | 6 => .array .int
  | 7 => .array .int
  | 8 => .array .int
  | 9 => .int
  | 10 => .int
  | 11 => .int
  | 12 => .int
  | 13 => .int
  | 14 => .long
  | 15 => .int
  | 16 => .int
  | 17 => .int
  | 18 => .array .int
  | 19 => .array .int
  | 20 => .int
  | 21 => .int
  | 22 => .int
  | 23 => .int
  | 24 => .int
  | 25 => .array .int
  | 26 => .array .int
  | 27 => .array .int
  | 28 => .array .int
  | 29 => .array .long
  | 30 => .array .byte
  | 31 => .array .long
  | 32 => .array .int
  | 33 => .array .int
  | 34 => .int
  | 35 => .int
  | 36 => .int
  | 37 => .int
  | 38 => .int
  | 39 => .array .int
  | 40 => .array .int
  | 41 => .array .long
  | 42 => .array .long
  | 43 => .array .int
  | 44 => .long
  | 45 => .array .int
  | 46 => .int
  | 47 => .array .long
  | 48 => .array .int
  | 49 => .int
  | 50 => .int
  | 51 => .int
  | 52 => .int
  | 53 => .int
  | 54 => .array .int
  | 55 => .int
  | 56 => .int
  | 57 => .array .int
  | 58 => .array .int
  | 59 => .array .int
  | 60 => .int
  | _ => .array .boolean
abbrev wsX30 : List Cond := u_ws RX3 TX3 62
theorem nmX3 : ∀ a, a < 62 → ∀ b, b < 62 → a ≠ b → (TX3 a).2.1 ≠ (TX3 b).2.1 := by decide +kernel
theorem tyX3_ok : ∀ k, k < 62 → parseFieldDescriptor (TX3 k).2.2.1 = some (tyX3 k) := by decide +kernel
abbrev cX3_init : ByteArray := prog_19_method_1_code
def yX3_init : MethodName := ⟨RX3, "<init>", "()V"⟩
abbrev cX3_feed : ByteArray := prog_19_method_10_code
def yX3_feed : MethodName := ⟨RX3, "feed", "(IIIII)I"⟩
abbrev cX3_four : ByteArray := prog_19_method_11_code
def yX3_four : MethodName := ⟨RX3, "four", "(I)V"⟩
abbrev cX3_end : ByteArray := prog_19_method_12_code
def yX3_end : MethodName := ⟨RX3, "end", "(I)I"⟩
abbrev cX3_in : ByteArray := prog_19_method_3_code
def yX3_in : MethodName := ⟨RX3, "in", "(III)Z"⟩
abbrev cX3_text : ByteArray := prog_19_method_25_code
def yX3_text : MethodName := ⟨RX3, "text", "(II)I"⟩
abbrev cX3_is : ByteArray := prog_19_method_9_code
def yX3_is : MethodName := ⟨RX3, "is", "(II)Z"⟩
abbrev cX3_readText : ByteArray := prog_19_method_23_code
def yX3_readText : MethodName := ⟨RX3, "readText", "(I)Z"⟩
abbrev cX3_token : ByteArray := prog_19_method_14_code
def yX3_token : MethodName := ⟨RX3, "token", "()V"⟩
abbrev cX3_see : ByteArray := prog_19_method_13_code
def yX3_see : MethodName := ⟨RX3, "see", "()I"⟩
abbrev cX3_lines : ByteArray := prog_19_method_22_code
def yX3_lines : MethodName := ⟨RX3, "lines", "(I)Z"⟩
abbrev cX3_libraryLine : ByteArray := prog_19_method_19_code
def yX3_libraryLine : MethodName := ⟨RX3, "libraryLine", "(JI)Z"⟩
abbrev cX3_stops : ByteArray := prog_19_method_15_code
def yX3_stops : MethodName := ⟨RX3, "stops", "()Z"⟩
abbrev cX3_shelfLine : ByteArray := prog_19_method_18_code
def yX3_shelfLine : MethodName := ⟨RX3, "shelfLine", "(I)Z"⟩
abbrev cX3_later : ByteArray := prog_19_method_16_code
def yX3_later : MethodName := ⟨RX3, "later", "(II)V"⟩
abbrev cX3_takeNumber : ByteArray := prog_19_method_17_code
def yX3_takeNumber : MethodName := ⟨RX3, "takeNumber", "(IIII)Z"⟩
abbrev cX3_greater : ByteArray := prog_19_method_6_code
def yX3_greater : MethodName := ⟨RX3, "greater", "(II)I"⟩
abbrev cX3_bookLine : ByteArray := prog_19_method_20_code
def yX3_bookLine : MethodName := ⟨RX3, "bookLine", "(JI)Z"⟩
abbrev cX3_roundLine : ByteArray := prog_19_method_21_code
def yX3_roundLine : MethodName := ⟨RX3, "roundLine", "(JI)Z"⟩
abbrev cX3_store : ByteArray := prog_19_method_24_code
def yX3_store : MethodName := ⟨RX3, "store", "([III)V"⟩
abbrev cX3_fault : ByteArray := prog_19_method_26_code
def yX3_fault : MethodName := ⟨RX3, "fault", "(I)I"⟩
abbrev cX3_library : ByteArray := prog_19_method_40_code
def yX3_library : MethodName := ⟨RX3, "library", "(II)I"⟩
abbrev cX3_hand : ByteArray := prog_19_method_27_code
def yX3_hand : MethodName := ⟨RX3, "hand", "(I)Z"⟩
abbrev cX3_close : ByteArray := prog_19_method_37_code
def yX3_close : MethodName := ⟨RX3, "close", "()I"⟩
abbrev cX3_here : ByteArray := prog_19_method_33_code
def yX3_here : MethodName := ⟨RX3, "here", "()J"⟩
abbrev cX3_has : ByteArray := prog_19_method_4_code
def yX3_has : MethodName := ⟨RX3, "has", "(JI)Z"⟩
abbrev cX3_offOf : ByteArray := prog_19_method_34_code
def yX3_offOf : MethodName := ⟨RX3, "offOf", "(II)I"⟩
abbrev cX3_ones : ByteArray := prog_19_method_5_code
def yX3_ones : MethodName := ⟨RX3, "ones", "(J)I"⟩
abbrev cX3_tablets : ByteArray := prog_19_method_32_code
def yX3_tablets : MethodName := ⟨RX3, "tablets", "()I"⟩
abbrev cX3_tabletsOn : ByteArray := prog_19_method_31_code
def yX3_tabletsOn : MethodName := ⟨RX3, "tabletsOn", "(I)I"⟩
abbrev cX3_even : ByteArray := prog_19_method_39_code
def yX3_even : MethodName := ⟨RX3, "even", "()I"⟩
abbrev cX3_shelf : ByteArray := prog_19_method_56_code
def yX3_shelf : MethodName := ⟨RX3, "shelf", "(III)I"⟩
abbrev cX3_isShelf : ByteArray := prog_19_method_28_code
def yX3_isShelf : MethodName := ⟨RX3, "isShelf", "(I)Z"⟩
abbrev cX3_layRow : ByteArray := prog_19_method_53_code
def yX3_layRow : MethodName := ⟨RX3, "layRow", "(I)V"⟩
abbrev cX3_turned : ByteArray := prog_19_method_54_code
def yX3_turned : MethodName := ⟨RX3, "turned", "()I"⟩
abbrev cX3_longest : ByteArray := prog_19_method_55_code
def yX3_longest : MethodName := ⟨RX3, "longest", "()I"⟩
abbrev cX3_slidesOf : ByteArray := prog_19_method_52_code
def yX3_slidesOf : MethodName := ⟨RX3, "slidesOf", "(II)I"⟩
abbrev cX3_layCells : ByteArray := prog_19_method_46_code
def yX3_layCells : MethodName := ⟨RX3, "layCells", "(I)V"⟩
abbrev cX3_findSlides : ByteArray := prog_19_method_47_code
def yX3_findSlides : MethodName := ⟨RX3, "findSlides", "()V"⟩
abbrev cX3_packed : ByteArray := prog_19_method_44_code
def yX3_packed : MethodName := ⟨RX3, "packed", "()J"⟩
abbrev cX3_comesTo : ByteArray := prog_19_method_43_code
def yX3_comesTo : MethodName := ⟨RX3, "comesTo", "(JI)V"⟩
abbrev cX3_find : ByteArray := prog_19_method_42_code
def yX3_find : MethodName := ⟨RX3, "find", "(J)I"⟩
abbrev cX3_slot : ByteArray := prog_19_method_41_code
def yX3_slot : MethodName := ⟨RX3, "slot", "(J)I"⟩
abbrev cX3_slideAll : ByteArray := prog_19_method_48_code
def yX3_slideAll : MethodName := ⟨RX3, "slideAll", "(JI)V"⟩
abbrev cX3_unpack : ByteArray := prog_19_method_45_code
def yX3_unpack : MethodName := ⟨RX3, "unpack", "(J)V"⟩
abbrev cX3_swap : ByteArray := prog_19_method_49_code
def yX3_swap : MethodName := ⟨RX3, "swap", "(II)V"⟩
abbrev cX3_slidesNow : ByteArray := prog_19_method_50_code
def yX3_slidesNow : MethodName := ⟨RX3, "slidesNow", "()I"⟩
abbrev cX3_findFirst : ByteArray := prog_19_method_51_code
def yX3_findFirst : MethodName := ⟨RX3, "findFirst", "(I)V"⟩
abbrev cX3_place : ByteArray := prog_19_method_57_code
def yX3_place : MethodName := ⟨RX3, "place", "(III)I"⟩
abbrev cX3_isPlace : ByteArray := prog_19_method_29_code
def yX3_isPlace : MethodName := ⟨RX3, "isPlace", "(II)Z"⟩
abbrev cX3_off : ByteArray := prog_19_method_58_code
def yX3_off : MethodName := ⟨RX3, "off", "(IIIZ)I"⟩
abbrev cX3_isMark : ByteArray := prog_19_method_30_code
def yX3_isMark : MethodName := ⟨RX3, "isMark", "(I)Z"⟩
abbrev cX3_readings : ByteArray := prog_19_method_59_code
def yX3_readings : MethodName := ⟨RX3, "readings", "(III)J"⟩
abbrev cX3_readingsOf : ByteArray := prog_19_method_36_code
def yX3_readingsOf : MethodName := ⟨RX3, "readingsOf", "(I)J"⟩
abbrev cX3_mayBe : ByteArray := prog_19_method_35_code
def yX3_mayBe : MethodName := ⟨RX3, "mayBe", "(III)Z"⟩
abbrev cX3_between : ByteArray := prog_19_method_60_code
def yX3_between : MethodName := ⟨RX3, "between", "(IIII)J"⟩
abbrev cX3_fresh : ByteArray := prog_19_method_61_code
def yX3_fresh : MethodName := ⟨RX3, "fresh", "(II)I"⟩
abbrev cX3_apartFrom : ByteArray := prog_19_method_38_code
def yX3_apartFrom : MethodName := ⟨RX3, "apartFrom", "(II)J"⟩
abbrev cX3_set : ByteArray := prog_19_method_63_code
def yX3_set : MethodName := ⟨RX3, "set", "(IIZI)I"⟩
abbrev cX3_findSet : ByteArray := prog_19_method_62_code
def yX3_findSet : MethodName := ⟨RX3, "findSet", "(JI)V"⟩
abbrev cX3_nthOf : ByteArray := prog_19_method_64_code
def yX3_nthOf : MethodName := ⟨RX3, "nthOf", "(JI)I"⟩
abbrev cX3_walk : ByteArray := prog_19_method_65_code
def yX3_walk : MethodName := ⟨RX3, "walk", "(IIII)I"⟩
abbrev cX3_halving : ByteArray := prog_19_method_66_code
def yX3_halving : MethodName := ⟨RX3, "halving", "(IIIZ)I"⟩
abbrev cX3_mean : ByteArray := prog_19_method_71_code
def yX3_mean : MethodName := ⟨RX3, "mean", "(IIZ)I"⟩
abbrev cX3_weights : ByteArray := prog_19_method_67_code
def yX3_weights : MethodName := ⟨RX3, "weights", "()I"⟩
abbrev cX3_isOrder : ByteArray := prog_19_method_68_code
def yX3_isOrder : MethodName := ⟨RX3, "isOrder", "(I)Z"⟩
abbrev cX3_feltBy : ByteArray := prog_19_method_69_code
def yX3_feltBy : MethodName := ⟨RX3, "feltBy", "()I"⟩
abbrev cX3_common : ByteArray := prog_19_method_70_code
def yX3_common : MethodName := ⟨RX3, "common", "(II)I"⟩
abbrev cX3_best : ByteArray := prog_19_method_72_code
def yX3_best : MethodName := ⟨RX3, "best", "(II)I"⟩
abbrev cX3_deed : ByteArray := prog_19_method_75_code
def yX3_deed : MethodName := ⟨RX3, "deed", "(III)I"⟩
abbrev cX3_deeds : ByteArray := prog_19_method_73_code
def yX3_deeds : MethodName := ⟨RX3, "deeds", "()I"⟩
abbrev cX3_deedOf : ByteArray := prog_19_method_74_code
def yX3_deedOf : MethodName := ⟨RX3, "deedOf", "(II)I"⟩
abbrev cX3_stop : ByteArray := prog_19_method_82_code
def yX3_stop : MethodName := ⟨RX3, "stop", "(II)I"⟩
abbrev cX3_begin : ByteArray := prog_19_method_76_code
def yX3_begin : MethodName := ⟨RX3, "begin", "()V"⟩
abbrev cX3_doAll : ByteArray := prog_19_method_80_code
def yX3_doAll : MethodName := ⟨RX3, "doAll", "(I)I"⟩
abbrev cX3_does : ByteArray := prog_19_method_79_code
def yX3_does : MethodName := ⟨RX3, "does", "(I)Z"⟩
abbrev cX3_handTo : ByteArray := prog_19_method_77_code
def yX3_handTo : MethodName := ⟨RX3, "handTo", "(II)V"⟩
abbrev cX3_change : ByteArray := prog_19_method_78_code
def yX3_change : MethodName := ⟨RX3, "change", "(II)V"⟩
abbrev cX3_lies : ByteArray := prog_19_method_83_code
def yX3_lies : MethodName := ⟨RX3, "lies", "(IIIII)I"⟩
abbrev cX3_layState : ByteArray := prog_19_method_81_code
def yX3_layState : MethodName := ⟨RX3, "layState", "(III)Z"⟩
abbrev cX3_state : ByteArray := prog_19_method_88_code
def yX3_state : MethodName := ⟨RX3, "state", "(IIII)J"⟩
abbrev cX3_lentSet : ByteArray := prog_19_method_84_code
def yX3_lentSet : MethodName := ⟨RX3, "lentSet", "()J"⟩
abbrev cX3_movedNow : ByteArray := prog_19_method_85_code
def yX3_movedNow : MethodName := ⟨RX3, "movedNow", "()I"⟩
abbrev cX3_sure : ByteArray := prog_19_method_86_code
def yX3_sure : MethodName := ⟨RX3, "sure", "()I"⟩
abbrev cX3_inOrder : ByteArray := prog_19_method_87_code
def yX3_inOrder : MethodName := ⟨RX3, "inOrder", "()J"⟩
abbrev cX3_may : ByteArray := prog_19_method_89_code
def yX3_may : MethodName := ⟨RX3, "may", "(IIIIIZ)J"⟩
abbrev cX3_round : ByteArray := prog_19_method_98_code
def yX3_round : MethodName := ⟨RX3, "round", "(II)I"⟩
abbrev cX3_layRound : ByteArray := prog_19_method_90_code
def yX3_layRound : MethodName := ⟨RX3, "layRound", "(I)Z"⟩
abbrev cX3_serve : ByteArray := prog_19_method_96_code
def yX3_serve : MethodName := ⟨RX3, "serve", "()I"⟩
abbrev cX3_costBy : ByteArray := prog_19_method_95_code
def yX3_costBy : MethodName := ⟨RX3, "costBy", "(III)I"⟩
abbrev cX3_spotOf : ByteArray := prog_19_method_92_code
def yX3_spotOf : MethodName := ⟨RX3, "spotOf", "(II)I"⟩
abbrev cX3_unit : ByteArray := prog_19_method_91_code
def yX3_unit : MethodName := ⟨RX3, "unit", "(I)I"⟩
abbrev cX3_stepsOf : ByteArray := prog_19_method_94_code
def yX3_stepsOf : MethodName := ⟨RX3, "stepsOf", "(II)I"⟩
abbrev cX3_moved : ByteArray := prog_19_method_93_code
def yX3_moved : MethodName := ⟨RX3, "moved", "(III)I"⟩
abbrev cX3_greedy : ByteArray := prog_19_method_97_code
def yX3_greedy : MethodName := ⟨RX3, "greedy", "()I"⟩
abbrev cX3_drawn : ByteArray := prog_19_method_100_code
def yX3_drawn : MethodName := ⟨RX3, "drawn", "(IIIII)I"⟩
abbrev cX3_draw : ByteArray := prog_19_method_99_code
def yX3_draw : MethodName := ⟨RX3, "draw", "(I)I"⟩
abbrev cX3_insert : ByteArray := prog_19_method_101_code
def yX3_insert : MethodName := ⟨RX3, "insert", "(III)I"⟩
abbrev cX3_hardest : ByteArray := prog_19_method_103_code
def yX3_hardest : MethodName := ⟨RX3, "hardest", "(III)I"⟩
abbrev cX3_hole : ByteArray := prog_19_method_102_code
def yX3_hole : MethodName := ⟨RX3, "hole", "(I)I"⟩
abbrev cX3_pairs : ByteArray := prog_19_method_104_code
def yX3_pairs : MethodName := ⟨RX3, "pairs", "(II)I"⟩
abbrev cX3_tells : ByteArray := prog_19_method_106_code
def yX3_tells : MethodName := ⟨RX3, "tells", "(I)I"⟩
abbrev cX3_tellBy : ByteArray := prog_19_method_105_code
def yX3_tellBy : MethodName := ⟨RX3, "tellBy", "(JI)Z"⟩
abbrev cX3_nearest : ByteArray := prog_19_method_107_code
def yX3_nearest : MethodName := ⟨RX3, "nearest", "(III)I"⟩
abbrev cX3_swaps : ByteArray := prog_19_method_109_code
def yX3_swaps : MethodName := ⟨RX3, "swaps", "(III)I"⟩
abbrev cX3_countMarks : ByteArray := prog_19_method_108_code
def yX3_countMarks : MethodName := ⟨RX3, "countMarks", "(III)I"⟩
abbrev cX3_hands : ByteArray := prog_19_method_110_code
def yX3_hands : MethodName := ⟨RX3, "hands", "(III)I"⟩
abbrev cX3_count : ByteArray := prog_19_method_111_code
def yX3_count : MethodName := ⟨RX3, "count", "(I)I"⟩
abbrev cX3_image : ByteArray := prog_19_method_112_code
def yX3_image : MethodName := ⟨RX3, "image", "(I)Z"⟩
abbrev cX3_copyAll : ByteArray := prog_19_method_8_code
def yX3_copyAll : MethodName := ⟨RX3, "copyAll", "(II)V"⟩
abbrev cX3_copyRow : ByteArray := prog_19_method_7_code
def yX3_copyRow : MethodName := ⟨RX3, "copyRow", "([IIII)V"⟩
abbrev cX3_again : ByteArray := prog_19_method_113_code
def yX3_again : MethodName := ⟨RX3, "again", "(I)Z"⟩
def RX4 : String := "TouchShelf$Reader"
abbrev cX4_init : ByteArray := prog_10_method_1_code
def yX4_init : MethodName := ⟨RX4, "<init>", "([BI)V"⟩
abbrev cX4_step : ByteArray := prog_10_method_5_code
def yX4_step : MethodName := ⟨RX4, "step", "()V"⟩
abbrev cX4_at : ByteArray := prog_10_method_2_code
def yX4_at : MethodName := ⟨RX4, "at", "(I)I"⟩
abbrev cX4_isLetter : ByteArray := prog_10_method_3_code
def yX4_isLetter : MethodName := ⟨RX4, "isLetter", "(I)Z"⟩
abbrev cX4_isDigit : ByteArray := prog_10_method_4_code
def yX4_isDigit : MethodName := ⟨RX4, "isDigit", "(I)Z"⟩
abbrev cX4_lines : ByteArray := prog_10_method_18_code
def yX4_lines : MethodName := ⟨RX4, "lines", "()V"⟩
abbrev cX4_here : ByteArray := prog_10_method_6_code
def yX4_here : MethodName := ⟨RX4, "here", "()I"⟩
abbrev cX4_word : ByteArray := prog_10_method_10_code
def yX4_word : MethodName := ⟨RX4, "word", "([Ljava/lang/String;)I"⟩
abbrev cX4_takes : ByteArray := prog_10_method_9_code
def yX4_takes : MethodName := ⟨RX4, "takes", "(Ljava/lang/String;)Z"⟩
abbrev cX4_wrong : ByteArray := prog_10_method_8_code
def yX4_wrong : MethodName := ⟨RX4, "wrong", "()LTouchShelf$Fault;"⟩
abbrev cX4_also : ByteArray := prog_10_method_11_code
def yX4_also : MethodName := ⟨RX4, "also", "(II)V"⟩
abbrev cX4_number : ByteArray := prog_10_method_12_code
def yX4_number : MethodName := ⟨RX4, "number", "(II)I"⟩
abbrev cX4_other : ByteArray := prog_10_method_13_code
def yX4_other : MethodName := ⟨RX4, "other", "(II)I"⟩
abbrev cX4_mark : ByteArray := prog_10_method_14_code
def yX4_mark : MethodName := ⟨RX4, "mark", "()I"⟩
abbrev cX4_isMark : ByteArray := prog_10_method_7_code
def yX4_isMark : MethodName := ⟨RX4, "isMark", "()Z"⟩
abbrev cX4_ends : ByteArray := prog_10_method_15_code
def yX4_ends : MethodName := ⟨RX4, "ends", "()V"⟩
def RX5 : String := "TouchShelf$LibraryReader"
def TX5 : u_T := fun k => match k with
  | 0 => ("TouchShelf$Reader", "tape", "[B", true)
  | 1 => ("TouchShelf$Reader", "size", "I", true)
  | 2 => ("TouchShelf$Reader", "next", "I", false)
  | 3 => ("TouchShelf$Reader", "place", "I", false)
  | 4 => ("TouchShelf$Reader", "value", "I", false)
  | 5 => ("TouchShelf$Reader", "token", "LTouchShelf$Token;", false)
  | 6 => ("TouchShelf$Reader", "text", "Ljava/lang/String;", false)
  | 7 => ("TouchShelf$Reader", "also", "LTouchShelf$Fault;", false)
  | _ => ("TouchShelf$LibraryReader", "library", "LTouchShelf$Library;", true)
def tyX5 : Nat → FieldType := fun k => match k with
  | 0 => .array .byte
  | 1 => .int
  | 2 => .int
  | 3 => .int
  | 4 => .int
  | 5 => .object "TouchShelf$Token"
  | 6 => .object "java/lang/String"
  | 7 => .object "TouchShelf$Fault"
  | _ => .object "TouchShelf$Library"
abbrev wsX50 : List Cond := u_ws RX5 TX5 9
theorem nmX5 : ∀ a, a < 9 → ∀ b, b < 9 → a ≠ b → (TX5 a).2.1 ≠ (TX5 b).2.1 := by decide +kernel
theorem tyX5_ok : ∀ k, k < 9 → parseFieldDescriptor (TX5 k).2.2.1 = some (tyX5 k) := by decide +kernel
abbrev cX5_init : ByteArray := prog_9_method_1_code
def yX5_init : MethodName := ⟨RX5, "<init>", "([BI)V"⟩
abbrev cX5_read : ByteArray := prog_9_method_2_code
def yX5_read : MethodName := ⟨RX5, "read", "()LTouchShelf$Library;"⟩
abbrev cX5_line : ByteArray := prog_9_method_4_code
def yX5_line : MethodName := ⟨RX5, "line", "()V"⟩
abbrev cX5_shelf : ByteArray := prog_9_method_5_code
def yX5_shelf : MethodName := ⟨RX5, "shelf", "(I)V"⟩
abbrev cX5_weight : ByteArray := prog_9_method_6_code
def yX5_weight : MethodName := ⟨RX5, "weight", "()V"⟩
abbrev cX5_isWhole : ByteArray := prog_9_method_3_code
def yX5_isWhole : MethodName := ⟨RX5, "isWhole", "()Z"⟩
def RX6 : String := "TouchShelf$Library"
def TX6 : u_T := fun k => match k with
  | 0 => ("TouchShelf$Library", "bits", "I", false)
  | 1 => ("TouchShelf$Library", "wear", "I", false)
  | 2 => ("TouchShelf$Library", "rate", "I", false)
  | _ => ("TouchShelf$Library", "shelves", "Ljava/util/ArrayList;", true)
def tyX6 : Nat → FieldType := fun k => match k with
  | 0 => .int
  | 1 => .int
  | 2 => .int
  | _ => .object "java/util/ArrayList"
abbrev wsX60 : List Cond := u_ws RX6 TX6 4
theorem nmX6 : ∀ a, a < 4 → ∀ b, b < 4 → a ≠ b → (TX6 a).2.1 ≠ (TX6 b).2.1 := by decide +kernel
theorem tyX6_ok : ∀ k, k < 4 → parseFieldDescriptor (TX6 k).2.2.1 = some (tyX6 k) := by decide +kernel
abbrev cX6_init : ByteArray := prog_8_method_1_code
def yX6_init : MethodName := ⟨RX6, "<init>", "()V"⟩
abbrev cX6_shelf : ByteArray := prog_8_method_3_code
def yX6_shelf : MethodName := ⟨RX6, "shelf", "(I)LTouchShelf$Shelf;"⟩
abbrev cX6_here : ByteArray := prog_8_method_9_code
def yX6_here : MethodName := ⟨RX6, "here", "()I"⟩
abbrev cX6_marks : ByteArray := prog_8_method_4_code
def yX6_marks : MethodName := ⟨RX6, "marks", "()I"⟩
abbrev cX6_close : ByteArray := prog_8_method_11_code
def yX6_close : MethodName := ⟨RX6, "close", "(I)I"⟩
abbrev cX6_tablets : ByteArray := prog_8_method_8_code
def yX6_tablets : MethodName := ⟨RX6, "tablets", "()I"⟩
abbrev cX6_isPlace : ByteArray := prog_8_method_7_code
def yX6_isPlace : MethodName := ⟨RX6, "isPlace", "(II)Z"⟩
abbrev cX6_isMark : ByteArray := prog_8_method_6_code
def yX6_isMark : MethodName := ⟨RX6, "isMark", "(I)Z"⟩
abbrev cX6_readings : ByteArray := prog_8_method_10_code
def yX6_readings : MethodName := ⟨RX6, "readings", "(I)I"⟩
abbrev cX6_every : ByteArray := prog_8_method_5_code
def yX6_every : MethodName := ⟨RX6, "every", "()I"⟩
abbrev cX6_copy : ByteArray := prog_8_method_2_code
def yX6_copy : MethodName := ⟨RX6, "copy", "()LTouchShelf$Library;"⟩
def RX7 : String := "TouchShelf$DaybookReader"
def TX7 : u_T := fun k => match k with
  | 0 => ("TouchShelf$Reader", "tape", "[B", true)
  | 1 => ("TouchShelf$Reader", "size", "I", true)
  | 2 => ("TouchShelf$Reader", "next", "I", false)
  | 3 => ("TouchShelf$Reader", "place", "I", false)
  | 4 => ("TouchShelf$Reader", "value", "I", false)
  | 5 => ("TouchShelf$Reader", "token", "LTouchShelf$Token;", false)
  | 6 => ("TouchShelf$Reader", "text", "Ljava/lang/String;", false)
  | 7 => ("TouchShelf$Reader", "also", "LTouchShelf$Fault;", false)
  | _ => ("TouchShelf$DaybookReader", "deeds", "Ljava/util/ArrayList;", true)
def tyX7 : Nat → FieldType := fun k => match k with
  | 0 => .array .byte
  | 1 => .int
  | 2 => .int
  | 3 => .int
  | 4 => .int
  | 5 => .object "TouchShelf$Token"
  | 6 => .object "java/lang/String"
  | 7 => .object "TouchShelf$Fault"
  | _ => .object "java/util/ArrayList"
abbrev wsX70 : List Cond := u_ws RX7 TX7 9
theorem nmX7 : ∀ a, a < 9 → ∀ b, b < 9 → a ≠ b → (TX7 a).2.1 ≠ (TX7 b).2.1 := by decide +kernel
theorem tyX7_ok : ∀ k, k < 9 → parseFieldDescriptor (TX7 k).2.2.1 = some (tyX7 k) := by decide +kernel
abbrev cX7_line : ByteArray := prog_3_method_4_code
def yX7_line : MethodName := ⟨RX7, "line", "()V"⟩
abbrev cX7_isWhole : ByteArray := prog_3_method_3_code
def yX7_isWhole : MethodName := ⟨RX7, "isWhole", "()Z"⟩
abbrev cX7_init : ByteArray := prog_3_method_1_code
def yX7_init : MethodName := ⟨RX7, "<init>", "([BI)V"⟩
abbrev cX7_read : ByteArray := prog_3_method_2_code
def yX7_read : MethodName := ⟨RX7, "read", "()Ljava/util/ArrayList;"⟩
def RX8 : String := "TouchShelf$Fault"
def TX8 : u_T := fun k => match k with
  | 0 => ("java/lang/Throwable", "cause", "Ljava/lang/Throwable;", false)
  | 1 => ("java/lang/Throwable", "stackTrace", "[Ljava/lang/StackTraceElement;", false)
  | 2 => ("java/lang/Throwable", "suppressedExceptions", "Ljava/util/List;", false)
  | 3 => ("java/lang/Throwable", "detailMessage", "Ljava/lang/String;", false)
  | 4 => ("java/lang/Throwable", "backtrace", "Ljava/lang/Object;", false)
  | 5 => ("java/lang/Throwable", "depth", "I", false)
  | 6 => ("TouchShelf$Fault", "kind", "I", true)
  | _ => ("TouchShelf$Fault", "place", "I", true)
def tyX8 : Nat → FieldType := fun k => match k with
  | 0 => .object "java/lang/Throwable"
  | 1 => .array (.object "java/lang/StackTraceElement")
  | 2 => .object "java/util/List"
  | 3 => .object "java/lang/String"
  | 4 => .object "java/lang/Object"
  | 5 => .int
  | 6 => .int
  | _ => .int
abbrev wsX80 : List Cond := u_ws RX8 TX8 8
theorem nmX8 : ∀ a, a < 8 → ∀ b, b < 8 → a ≠ b → (TX8 a).2.1 ≠ (TX8 b).2.1 := by decide +kernel
theorem tyX8_ok : ∀ k, k < 8 → parseFieldDescriptor (TX8 k).2.2.1 = some (tyX8 k) := by decide +kernel
abbrev cX8_init : ByteArray := prog_7_method_1_code
def yX8_init : MethodName := ⟨RX8, "<init>", "(II)V"⟩
def RX9 : String := "TouchShelf$Deed"
def TX9 : u_T := fun k => match k with
  | 0 => ("TouchShelf$Deed", "doing", "LTouchShelf$Doing;", true)
  | 1 => ("TouchShelf$Deed", "shelf", "I", true)
  | 2 => ("TouchShelf$Deed", "a", "I", true)
  | _ => ("TouchShelf$Deed", "b", "I", true)
def tyX9 : Nat → FieldType := fun k => match k with
  | 0 => .object "TouchShelf$Doing"
  | 1 => .int
  | 2 => .int
  | _ => .int
abbrev wsX90 : List Cond := u_ws RX9 TX9 4
theorem nmX9 : ∀ a, a < 4 → ∀ b, b < 4 → a ≠ b → (TX9 a).2.1 ≠ (TX9 b).2.1 := by decide +kernel
theorem tyX9_ok : ∀ k, k < 4 → parseFieldDescriptor (TX9 k).2.2.1 = some (tyX9 k) := by decide +kernel
abbrev cX9_init : ByteArray := prog_4_method_1_code
def yX9_init : MethodName := ⟨RX9, "<init>", "(LTouchShelf$Doing;III)V"⟩
abbrev cX9_told : ByteArray := prog_4_method_2_code
def yX9_told : MethodName := ⟨RX9, "told", "(I)I"⟩
theorem q98 : (Jvm.Cond.initialized "java/util/AbstractCollection") ∈ lw_all := lw_g (lw_at lw_m1 3 rfl) rfl
theorem q158 : (Jvm.Cond.instanceMethod ({ cls := "java/util/AbstractCollection", name := "<init>", desc := "()V" } : Jvm.MethodName)) ∈ lw_all := lw_g (lw_at lw_m1 63 rfl) rfl
theorem q159 : (Jvm.Cond.code ({ cls := "java/util/AbstractCollection", name := "<init>", desc := "()V" } : Jvm.MethodName) prog_41_method_1_code (1 : Nat) (Option.none : Option Jvm.ClassFile.FieldType)) ∈ lw_all := lw_g (lw_at lw_m1 64 rfl) rfl
theorem q160 : (Jvm.Cond.methodLink "java/util/AbstractCollection" (1 : Nat) ({ cls := "java/lang/Object", name := "<init>", desc := "()V" } : Jvm.MethodName)) ∈ lw_all := lw_g (lw_at lw_m1 65 rfl) rfl
theorem q99 : (Jvm.Cond.initialized "java/util/AbstractList") ∈ lw_all := lw_g (lw_at lw_m1 4 rfl) rfl
theorem q155 : (Jvm.Cond.instanceMethod ({ cls := "java/util/AbstractList", name := "<init>", desc := "()V" } : Jvm.MethodName)) ∈ lw_all := lw_g (lw_at lw_m1 60 rfl) rfl
theorem q156 : (Jvm.Cond.code ({ cls := "java/util/AbstractList", name := "<init>", desc := "()V" } : Jvm.MethodName) prog_42_method_1_code (1 : Nat) (Option.none : Option Jvm.ClassFile.FieldType)) ∈ lw_all := lw_g (lw_at lw_m1 61 rfl) rfl
theorem q157 : (Jvm.Cond.methodLink "java/util/AbstractList" (1 : Nat) ({ cls := "java/util/AbstractCollection", name := "<init>", desc := "()V" } : Jvm.MethodName)) ∈ lw_all := lw_g (lw_at lw_m1 62 rfl) rfl
theorem q167 : (Jvm.Cond.fieldLink "java/util/AbstractList" (7 : Nat) "java/util/AbstractList" "modCount" "I") ∈ lw_all := lw_g (lw_at lw_m1 72 rfl) rfl
theorem q175 : (Jvm.Cond.soleField "java/util/AbstractList" "modCount") ∈ lw_all := lw_g (lw_at lw_m1 80 rfl) rfl
theorem q113 : (Jvm.Cond.initialized "java/util/Arrays") ∈ lw_all := lw_g (lw_at lw_m1 18 rfl) rfl
theorem q360 : (Jvm.Cond.static ({ cls := "java/util/Arrays", name := "copyOf", desc := "([BI)[B" } : Jvm.MethodName)) ∈ lw_all := lw_g (lw_at lw_m2 25 rfl) rfl
theorem q361 : (Jvm.Cond.code ({ cls := "java/util/Arrays", name := "copyOf", desc := "([BI)[B" } : Jvm.MethodName) prog_44_method_121_code (3 : Nat) (Option.some (Jvm.ClassFile.FieldType.array Jvm.ClassFile.FieldType.byte))) ∈ lw_all := lw_g (lw_at lw_m2 26 rfl) rfl
theorem q362 : (Jvm.Cond.methodLink "java/util/Arrays" (310 : Nat) ({ cls := "[B", name := "clone", desc := "()Ljava/lang/Object;" } : Jvm.MethodName)) ∈ lw_all := lw_g (lw_at lw_m2 27 rfl) rfl
theorem q368 : (Jvm.Cond.classLink "java/util/Arrays" (311 : Nat) "[B") ∈ lw_all := lw_g (lw_at lw_m2 33 rfl) rfl
theorem q369 : (Jvm.Cond.methodLink "java/util/Arrays" (304 : Nat) ({ cls := "java/lang/Math", name := "min", desc := "(II)I" } : Jvm.MethodName)) ∈ lw_all := lw_g (lw_at lw_m2 34 rfl) rfl
theorem q372 : (Jvm.Cond.methodLink "java/util/Arrays" (150 : Nat) ({ cls := "java/lang/System", name := "arraycopy", desc := "(Ljava/lang/Object;ILjava/lang/Object;II)V" } : Jvm.MethodName)) ∈ lw_all := lw_g (lw_at lw_m2 37 rfl) rfl
theorem q449 : (Jvm.Cond.static ({ cls := "java/util/Arrays", name := "copyOfRange", desc := "([BII)[B" } : Jvm.MethodName)) ∈ lw_all := lw_g (lw_at lw_m2 114 rfl) rfl
theorem q450 : (Jvm.Cond.code ({ cls := "java/util/Arrays", name := "copyOfRange", desc := "([BII)[B" } : Jvm.MethodName) prog_44_method_132_code (3 : Nat) (Option.some (Jvm.ClassFile.FieldType.array Jvm.ClassFile.FieldType.byte))) ∈ lw_all := lw_g (lw_at lw_m2 115 rfl) rfl
theorem q451 : (Jvm.Cond.methodLink "java/util/Arrays" (339 : Nat) ({ cls := "java/util/Arrays", name := "copyOfRangeByte", desc := "([BII)[B" } : Jvm.MethodName)) ∈ lw_all := lw_g (lw_at lw_m2 116 rfl) rfl
theorem q452 : (Jvm.Cond.static ({ cls := "java/util/Arrays", name := "copyOfRangeByte", desc := "([BII)[B" } : Jvm.MethodName)) ∈ lw_all := lw_g (lw_at lw_m2 117 rfl) rfl
theorem q453 : (Jvm.Cond.code ({ cls := "java/util/Arrays", name := "copyOfRangeByte", desc := "([BII)[B" } : Jvm.MethodName) prog_44_method_133_code (5 : Nat) (Option.some (Jvm.ClassFile.FieldType.array Jvm.ClassFile.FieldType.byte))) ∈ lw_all := lw_g (lw_at lw_m2 118 rfl) rfl
theorem q454 : (Jvm.Cond.methodLink "java/util/Arrays" (343 : Nat) ({ cls := "java/util/Arrays", name := "checkLength", desc := "(II)V" } : Jvm.MethodName)) ∈ lw_all := lw_g (lw_at lw_m2 119 rfl) rfl
theorem q455 : (Jvm.Cond.static ({ cls := "java/util/Arrays", name := "checkLength", desc := "(II)V" } : Jvm.MethodName)) ∈ lw_all := lw_g (lw_at lw_m2 120 rfl) rfl
theorem q456 : (Jvm.Cond.code ({ cls := "java/util/Arrays", name := "checkLength", desc := "(II)V" } : Jvm.MethodName) prog_44_method_131_code (2 : Nat) (Option.none : Option Jvm.ClassFile.FieldType)) ∈ lw_all := lw_g (lw_at lw_m2 121 rfl) rfl
theorem q742 : (Jvm.Cond.static ({ cls := "java/util/Arrays", name := "copyOf", desc := "([Ljava/lang/Object;I)[Ljava/lang/Object;" } : Jvm.MethodName)) ∈ lw_all := lw_g (lw_at lw_m3 167 rfl) rfl
theorem q743 : (Jvm.Cond.code ({ cls := "java/util/Arrays", name := "copyOf", desc := "([Ljava/lang/Object;I)[Ljava/lang/Object;" } : Jvm.MethodName) prog_44_method_119_code (2 : Nat) (Option.some (Jvm.ClassFile.FieldType.array (Jvm.ClassFile.FieldType.object "java/lang/Object")))) ∈ lw_all := lw_g (lw_at lw_m3 168 rfl) rfl
theorem q744 : (Jvm.Cond.methodLink "java/util/Arrays" (86 : Nat) ({ cls := "java/lang/Object", name := "getClass", desc := "()Ljava/lang/Class;" } : Jvm.MethodName)) ∈ lw_all := lw_g (lw_at lw_m3 169 rfl) rfl
theorem q769 : (Jvm.Cond.methodLink "java/util/Arrays" (300 : Nat) ({ cls := "java/util/Arrays", name := "copyOf", desc := "([Ljava/lang/Object;ILjava/lang/Class;)[Ljava/lang/Object;" } : Jvm.MethodName)) ∈ lw_all := lw_g (lw_at lw_m3 194 rfl) rfl
theorem q770 : (Jvm.Cond.static ({ cls := "java/util/Arrays", name := "copyOf", desc := "([Ljava/lang/Object;ILjava/lang/Class;)[Ljava/lang/Object;" } : Jvm.MethodName)) ∈ lw_all := lw_g (lw_at lw_m3 195 rfl) rfl
theorem q771 : (Jvm.Cond.code ({ cls := "java/util/Arrays", name := "copyOf", desc := "([Ljava/lang/Object;ILjava/lang/Class;)[Ljava/lang/Object;" } : Jvm.MethodName) prog_44_method_120_code (4 : Nat) (Option.some (Jvm.ClassFile.FieldType.array (Jvm.ClassFile.FieldType.object "java/lang/Object")))) ∈ lw_all := lw_g (lw_at lw_m3 196 rfl) rfl
theorem q772 : (Jvm.Cond.classLink "java/util/Arrays" (110 : Nat) "[Ljava/lang/Object;") ∈ lw_all := lw_g (lw_at lw_m3 197 rfl) rfl
theorem q773 : (Jvm.Cond.classLink "java/util/Arrays" (2 : Nat) "java/lang/Object") ∈ lw_all := lw_g (lw_at lw_m3 198 rfl) rfl
theorem q816 : (Jvm.Cond.static ({ cls := "java/util/Arrays", name := "copyOf", desc := "([II)[I" } : Jvm.MethodName)) ∈ lw_all := lw_g (lw_at lw_m4 1 rfl) rfl
theorem q817 : (Jvm.Cond.code ({ cls := "java/util/Arrays", name := "copyOf", desc := "([II)[I" } : Jvm.MethodName) prog_44_method_123_code (3 : Nat) (Option.some (Jvm.ClassFile.FieldType.array Jvm.ClassFile.FieldType.int))) ∈ lw_all := lw_g (lw_at lw_m4 2 rfl) rfl
theorem q818 : (Jvm.Cond.methodLink "java/util/Arrays" (316 : Nat) ({ cls := "[I", name := "clone", desc := "()Ljava/lang/Object;" } : Jvm.MethodName)) ∈ lw_all := lw_g (lw_at lw_m4 3 rfl) rfl
theorem q822 : (Jvm.Cond.classLink "java/util/Arrays" (317 : Nat) "[I") ∈ lw_all := lw_g (lw_at lw_m4 7 rfl) rfl
theorem q1133 : (Jvm.Cond.static ({ cls := "java/util/Arrays", name := "fill", desc := "([JJ)V" } : Jvm.MethodName)) ∈ lw_all := lw_g (lw_at lw_m5 78 rfl) rfl
theorem q1134 : (Jvm.Cond.code ({ cls := "java/util/Arrays", name := "fill", desc := "([JJ)V" } : Jvm.MethodName) prog_44_method_101_code (5 : Nat) (Option.none : Option Jvm.ClassFile.FieldType)) ∈ lw_all := lw_g (lw_at lw_m5 79 rfl) rfl
theorem q1137 : (Jvm.Cond.static ({ cls := "java/util/Arrays", name := "sort", desc := "([I)V" } : Jvm.MethodName)) ∈ lw_all := lw_g (lw_at lw_m5 82 rfl) rfl
theorem q1138 : (Jvm.Cond.code ({ cls := "java/util/Arrays", name := "sort", desc := "([I)V" } : Jvm.MethodName) prog_44_method_2_code (1 : Nat) (Option.none : Option Jvm.ClassFile.FieldType)) ∈ lw_all := lw_g (lw_at lw_m5 83 rfl) rfl
theorem q1139 : (Jvm.Cond.methodLink "java/util/Arrays" (7 : Nat) ({ cls := "java/util/DualPivotQuicksort", name := "sort", desc := "([IIII)V" } : Jvm.MethodName)) ∈ lw_all := lw_g (lw_at lw_m5 84 rfl) rfl
theorem q1398 : (Jvm.Cond.static ({ cls := "java/util/Arrays", name := "fill", desc := "([II)V" } : Jvm.MethodName)) ∈ lw_all := lw_g (lw_at lw_m6 103 rfl) rfl
theorem q1399 : (Jvm.Cond.code ({ cls := "java/util/Arrays", name := "fill", desc := "([II)V" } : Jvm.MethodName) prog_44_method_103_code (4 : Nat) (Option.none : Option Jvm.ClassFile.FieldType)) ∈ lw_all := lw_g (lw_at lw_m6 104 rfl) rfl
theorem q115 : (Jvm.Cond.initialized "java/lang/StringLatin1") ∈ lw_all := lw_g (lw_at lw_m1 20 rfl) rfl
theorem q381 : (Jvm.Cond.static ({ cls := "java/lang/StringLatin1", name := "canEncode", desc := "(C)Z" } : Jvm.MethodName)) ∈ lw_all := lw_g (lw_at lw_m2 46 rfl) rfl
theorem q382 : (Jvm.Cond.code ({ cls := "java/lang/StringLatin1", name := "canEncode", desc := "(C)Z" } : Jvm.MethodName) prog_35_method_3_code (1 : Nat) (Option.some Jvm.ClassFile.FieldType.boolean)) ∈ lw_all := lw_g (lw_at lw_m2 47 rfl) rfl
theorem q388 : (Jvm.Cond.static ({ cls := "java/lang/StringLatin1", name := "inflate", desc := "([BI[BII)V" } : Jvm.MethodName)) ∈ lw_all := lw_g (lw_at lw_m2 53 rfl) rfl
theorem q389 : (Jvm.Cond.code ({ cls := "java/lang/StringLatin1", name := "inflate", desc := "([BI[BII)V" } : Jvm.MethodName) prog_35_method_50_code (5 : Nat) (Option.none : Option Jvm.ClassFile.FieldType)) ∈ lw_all := lw_g (lw_at lw_m2 54 rfl) rfl
theorem q390 : (Jvm.Cond.methodLink "java/lang/StringLatin1" (240 : Nat) ({ cls := "java/lang/StringUTF16", name := "inflate", desc := "([BI[BII)V" } : Jvm.MethodName)) ∈ lw_all := lw_g (lw_at lw_m2 55 rfl) rfl
theorem q596 : (Jvm.Cond.static ({ cls := "java/lang/StringLatin1", name := "equals", desc := "([B[B)Z" } : Jvm.MethodName)) ∈ lw_all := lw_g (lw_at lw_m3 21 rfl) rfl
theorem q597 : (Jvm.Cond.code ({ cls := "java/lang/StringLatin1", name := "equals", desc := "([B[B)Z" } : Jvm.MethodName) prog_35_method_13_code (3 : Nat) (Option.some Jvm.ClassFile.FieldType.boolean)) ∈ lw_all := lw_g (lw_at lw_m3 22 rfl) rfl
theorem q116 : (Jvm.Cond.initialized "jdk/internal/util/Preconditions") ∈ lw_all := lw_g (lw_at lw_m1 21 rfl) rfl
theorem q403 : (Jvm.Cond.laysStatic "jdk/internal/util/Preconditions" "SIOOBE_FORMATTER" "Ljava/util/function/BiFunction;") ∈ lw_tbl := lw_at lw_m2 68 rfl
theorem q405 : (Jvm.Cond.static ({ cls := "jdk/internal/util/Preconditions", name := "checkFromIndexSize", desc := "(IIILjava/util/function/BiFunction;)I" } : Jvm.MethodName)) ∈ lw_all := lw_g (lw_at lw_m2 70 rfl) rfl
theorem q406 : (Jvm.Cond.code ({ cls := "jdk/internal/util/Preconditions", name := "checkFromIndexSize", desc := "(IIILjava/util/function/BiFunction;)I" } : Jvm.MethodName) prog_52_method_13_code (4 : Nat) (Option.some Jvm.ClassFile.FieldType.int)) ∈ lw_all := lw_g (lw_at lw_m2 71 rfl) rfl
theorem q426 : (Jvm.Cond.static ({ cls := "jdk/internal/util/Preconditions", name := "checkIndex", desc := "(IILjava/util/function/BiFunction;)I" } : Jvm.MethodName)) ∈ lw_all := lw_g (lw_at lw_m2 91 rfl) rfl
theorem q427 : (Jvm.Cond.code ({ cls := "jdk/internal/util/Preconditions", name := "checkIndex", desc := "(IILjava/util/function/BiFunction;)I" } : Jvm.MethodName) prog_52_method_11_code (3 : Nat) (Option.some Jvm.ClassFile.FieldType.int)) ∈ lw_all := lw_g (lw_at lw_m2 92 rfl) rfl
theorem q119 : (Jvm.Cond.initialized "java/lang/Throwable") ∈ lw_all := lw_g (lw_at lw_m1 24 rfl) rfl
theorem q609 : (Jvm.Cond.declares ({ cls := "java/lang/Throwable", name := "<init>", desc := "()V" } : Jvm.MethodName)) ∈ lw_tbl := lw_at lw_m3 34 rfl
theorem q610 : (Jvm.Cond.declares ({ cls := "java/lang/Throwable", name := "<init>", desc := "(Ljava/lang/String;)V" } : Jvm.MethodName)) ∈ lw_tbl := lw_at lw_m3 35 rfl
theorem q614 : (Jvm.Cond.lays "java/lang/Throwable" "java/lang/Throwable" "cause" "Ljava/lang/Throwable;") ∈ lw_all := lw_g (lw_at lw_m3 39 rfl) rfl
theorem q616 : (Jvm.Cond.lays "java/lang/Throwable" "java/lang/Throwable" "stackTrace" "[Ljava/lang/StackTraceElement;") ∈ lw_all := lw_g (lw_at lw_m3 41 rfl) rfl
theorem q618 : (Jvm.Cond.lays "java/lang/Throwable" "java/lang/Throwable" "suppressedExceptions" "Ljava/util/List;") ∈ lw_all := lw_g (lw_at lw_m3 43 rfl) rfl
theorem q620 : (Jvm.Cond.lays "java/lang/Throwable" "java/lang/Throwable" "detailMessage" "Ljava/lang/String;") ∈ lw_all := lw_g (lw_at lw_m3 45 rfl) rfl
theorem q622 : (Jvm.Cond.lays "java/lang/Throwable" "java/lang/Throwable" "backtrace" "Ljava/lang/Object;") ∈ lw_all := lw_g (lw_at lw_m3 47 rfl) rfl
theorem q623 : (Jvm.Cond.fieldLink "java/lang/Throwable" (198 : Nat) "java/lang/Throwable" "backtrace" "Ljava/lang/Object;") ∈ lw_all := lw_g (lw_at lw_m3 48 rfl) rfl
theorem q624 : (Jvm.Cond.superclass "java/lang/Throwable" "java/lang/Object") ∈ lw_all := lw_g (lw_at lw_m3 49 rfl) rfl
theorem q625 : (Jvm.Cond.instanceMethod ({ cls := "java/lang/Throwable", name := "<init>", desc := "()V" } : Jvm.MethodName)) ∈ lw_all := lw_g (lw_at lw_m3 50 rfl) rfl
theorem q626 : (Jvm.Cond.code ({ cls := "java/lang/Throwable", name := "<init>", desc := "()V" } : Jvm.MethodName) prog_38_method_1_code (1 : Nat) (Option.none : Option Jvm.ClassFile.FieldType)) ∈ lw_all := lw_g (lw_at lw_m3 51 rfl) rfl
theorem q627 : (Jvm.Cond.methodLink "java/lang/Throwable" (1 : Nat) ({ cls := "java/lang/Object", name := "<init>", desc := "()V" } : Jvm.MethodName)) ∈ lw_all := lw_g (lw_at lw_m3 52 rfl) rfl
theorem q628 : (Jvm.Cond.fieldLink "java/lang/Throwable" (13 : Nat) "java/lang/Throwable" "UNASSIGNED_STACK" "[Ljava/lang/StackTraceElement;") ∈ lw_all := lw_g (lw_at lw_m3 53 rfl) rfl
theorem q629 : (Jvm.Cond.laysStatic "java/lang/Throwable" "UNASSIGNED_STACK" "[Ljava/lang/StackTraceElement;") ∈ lw_tbl := lw_at lw_m3 54 rfl
theorem q630 : (Jvm.Cond.fieldLink "java/lang/Throwable" (20 : Nat) "java/lang/Throwable" "SUPPRESSED_SENTINEL" "Ljava/util/List;") ∈ lw_all := lw_g (lw_at lw_m3 55 rfl) rfl
theorem q631 : (Jvm.Cond.laysStatic "java/lang/Throwable" "SUPPRESSED_SENTINEL" "Ljava/util/List;") ∈ lw_tbl := lw_at lw_m3 56 rfl
theorem q632 : (Jvm.Cond.methodLink "java/lang/Throwable" (27 : Nat) ({ cls := "java/lang/Throwable", name := "fillInStackTrace", desc := "()Ljava/lang/Throwable;" } : Jvm.MethodName)) ∈ lw_all := lw_g (lw_at lw_m3 57 rfl) rfl
theorem q633 : (Jvm.Cond.instanceMethod ({ cls := "java/lang/Throwable", name := "fillInStackTrace", desc := "()Ljava/lang/Throwable;" } : Jvm.MethodName)) ∈ lw_all := lw_g (lw_at lw_m3 58 rfl) rfl
theorem q634 : (Jvm.Cond.sameMethod "java/lang/Throwable" "java/lang/Throwable" "fillInStackTrace" "()Ljava/lang/Throwable;") ∈ lw_all := lw_g (lw_at lw_m3 59 rfl) rfl
theorem q635 : (Jvm.Cond.codeSync ({ cls := "java/lang/Throwable", name := "fillInStackTrace", desc := "()Ljava/lang/Throwable;" } : Jvm.MethodName) prog_38_method_18_code (1 : Nat) (Option.some (Jvm.ClassFile.FieldType.object "java/lang/Throwable"))) ∈ lw_all := lw_g (lw_at lw_m3 60 rfl) rfl
theorem q636 : (Jvm.Cond.methodLink "java/lang/Throwable" (202 : Nat) ({ cls := "java/lang/Throwable", name := "fillInStackTrace", desc := "(I)Ljava/lang/Throwable;" } : Jvm.MethodName)) ∈ lw_all := lw_g (lw_at lw_m3 61 rfl) rfl
theorem q637 : (Jvm.Cond.privateMethod ({ cls := "java/lang/Throwable", name := "fillInStackTrace", desc := "(I)Ljava/lang/Throwable;" } : Jvm.MethodName)) ∈ lw_tbl := lw_at lw_m3 62 rfl
theorem q638 : (Jvm.Cond.instanceMethod ({ cls := "java/lang/Throwable", name := "fillInStackTrace", desc := "(I)Ljava/lang/Throwable;" } : Jvm.MethodName)) ∈ lw_all := lw_g (lw_at lw_m3 63 rfl) rfl
theorem q639 : (Jvm.Cond.instantiable "java/lang/Throwable" (6 : Nat)) ∈ lw_all := lw_g (lw_at lw_m3 64 rfl) rfl
theorem q640 : (Jvm.Cond.native ({ cls := "java/lang/Throwable", name := "fillInStackTrace", desc := "(I)Ljava/lang/Throwable;" } : Jvm.MethodName)) ∈ lw_all := lw_g (lw_at lw_m3 65 rfl) rfl
theorem q654 : (Jvm.Cond.fieldLink "java/lang/Throwable" (198 : Nat) "java/lang/Throwable" "backtrace" "Ljava/lang/Object;") ∈ lw_all := lw_g (lw_at lw_m3 79 rfl) rfl
theorem q655 : (Jvm.Cond.fieldLink "java/lang/Throwable" (7 : Nat) "java/lang/Throwable" "cause" "Ljava/lang/Throwable;") ∈ lw_all := lw_g (lw_at lw_m3 80 rfl) rfl
theorem q656 : (Jvm.Cond.fieldLink "java/lang/Throwable" (17 : Nat) "java/lang/Throwable" "stackTrace" "[Ljava/lang/StackTraceElement;") ∈ lw_all := lw_g (lw_at lw_m3 81 rfl) rfl
theorem q657 : (Jvm.Cond.fieldLink "java/lang/Throwable" (24 : Nat) "java/lang/Throwable" "suppressedExceptions" "Ljava/util/List;") ∈ lw_all := lw_g (lw_at lw_m3 82 rfl) rfl
theorem q662 : (Jvm.Cond.soleField "java/lang/Throwable" "backtrace") ∈ lw_all := lw_g (lw_at lw_m3 87 rfl) rfl
theorem q663 : (Jvm.Cond.soleField "java/lang/Throwable" "detailMessage") ∈ lw_all := lw_g (lw_at lw_m3 88 rfl) rfl
theorem q664 : (Jvm.Cond.soleField "java/lang/Throwable" "cause") ∈ lw_all := lw_g (lw_at lw_m3 89 rfl) rfl
theorem q665 : (Jvm.Cond.soleField "java/lang/Throwable" "stackTrace") ∈ lw_all := lw_g (lw_at lw_m3 90 rfl) rfl
theorem q667 : (Jvm.Cond.soleField "java/lang/Throwable" "depth") ∈ lw_all := lw_g (lw_at lw_m3 92 rfl) rfl
theorem q668 : (Jvm.Cond.soleField "java/lang/Throwable" "suppressedExceptions") ∈ lw_all := lw_g (lw_at lw_m3 93 rfl) rfl
theorem q2267 : (Jvm.Cond.sameMethod "java/lang/Throwable" "java/lang/Throwable" "fillInStackTrace" "(I)Ljava/lang/Throwable;") ∈ lw_all := lw_g (lw_at lw_m10 12 rfl) rfl
theorem q2302 : (Jvm.Cond.castable "java/lang/Throwable" "java/lang/Object") ∈ lw_tbl := lw_at lw_m10 47 rfl
theorem in_J13 : ∀ w ∈ wsJ130, w ∈ lw_all := lw_in wsJ130 [614, 616, 618, 620, 622] (by decide +kernel) (by decide +kernel)
theorem q120 : (Jvm.Cond.initialized "java/lang/Exception") ∈ lw_all := lw_g (lw_at lw_m1 25 rfl) rfl
theorem q607 : (Jvm.Cond.declares ({ cls := "java/lang/Exception", name := "<init>", desc := "()V" } : Jvm.MethodName)) ∈ lw_tbl := lw_at lw_m3 32 rfl
theorem q608 : (Jvm.Cond.declares ({ cls := "java/lang/Exception", name := "<init>", desc := "(Ljava/lang/String;)V" } : Jvm.MethodName)) ∈ lw_tbl := lw_at lw_m3 33 rfl
theorem q645 : (Jvm.Cond.instanceMethod ({ cls := "java/lang/Exception", name := "<init>", desc := "()V" } : Jvm.MethodName)) ∈ lw_all := lw_g (lw_at lw_m3 70 rfl) rfl
theorem q646 : (Jvm.Cond.code ({ cls := "java/lang/Exception", name := "<init>", desc := "()V" } : Jvm.MethodName) prog_27_method_1_code (1 : Nat) (Option.none : Option Jvm.ClassFile.FieldType)) ∈ lw_all := lw_g (lw_at lw_m3 71 rfl) rfl
theorem q647 : (Jvm.Cond.methodLink "java/lang/Exception" (1 : Nat) ({ cls := "java/lang/Throwable", name := "<init>", desc := "()V" } : Jvm.MethodName)) ∈ lw_all := lw_g (lw_at lw_m3 72 rfl) rfl
theorem q125 : (Jvm.Cond.initialized "java/util/Objects") ∈ lw_all := lw_g (lw_at lw_m1 30 rfl) rfl
theorem q855 : (Jvm.Cond.static ({ cls := "java/util/Objects", name := "checkIndex", desc := "(II)I" } : Jvm.MethodName)) ∈ lw_all := lw_g (lw_at lw_m4 40 rfl) rfl
theorem q856 : (Jvm.Cond.code ({ cls := "java/util/Objects", name := "checkIndex", desc := "(II)I" } : Jvm.MethodName) prog_48_method_17_code (2 : Nat) (Option.some Jvm.ClassFile.FieldType.int)) ∈ lw_all := lw_g (lw_at lw_m4 41 rfl) rfl
theorem q857 : (Jvm.Cond.methodLink "java/util/Objects" (105 : Nat) ({ cls := "jdk/internal/util/Preconditions", name := "checkIndex", desc := "(IILjava/util/function/BiFunction;)I" } : Jvm.MethodName)) ∈ lw_all := lw_g (lw_at lw_m4 42 rfl) rfl
theorem q126 : (Jvm.Cond.initialized "java/lang/Number") ∈ lw_all := lw_g (lw_at lw_m1 31 rfl) rfl
theorem q900 : (Jvm.Cond.instanceMethod ({ cls := "java/lang/Number", name := "<init>", desc := "()V" } : Jvm.MethodName)) ∈ lw_all := lw_g (lw_at lw_m4 85 rfl) rfl
theorem q901 : (Jvm.Cond.code ({ cls := "java/lang/Number", name := "<init>", desc := "()V" } : Jvm.MethodName) prog_32_method_1_code (1 : Nat) (Option.none : Option Jvm.ClassFile.FieldType)) ∈ lw_all := lw_g (lw_at lw_m4 86 rfl) rfl
theorem q902 : (Jvm.Cond.methodLink "java/lang/Number" (1 : Nat) ({ cls := "java/lang/Object", name := "<init>", desc := "()V" } : Jvm.MethodName)) ∈ lw_all := lw_g (lw_at lw_m4 87 rfl) rfl
theorem q127 : (Jvm.Cond.initialized "java/lang/Integer") ∈ lw_all := lw_g (lw_at lw_m1 32 rfl) rfl
theorem q764 : (Jvm.Cond.selects "java/lang/Integer" ({ cls := "java/lang/Object", name := "getClass", desc := "()Ljava/lang/Class;" } : Jvm.MethodName) ({ cls := "java/lang/Object", name := "getClass", desc := "()Ljava/lang/Class;" } : Jvm.MethodName)) ∈ lw_all := lw_g (lw_at lw_m3 189 rfl) rfl
theorem q888 : (Jvm.Cond.static ({ cls := "java/lang/Integer", name := "valueOf", desc := "(I)Ljava/lang/Integer;" } : Jvm.MethodName)) ∈ lw_all := lw_g (lw_at lw_m4 73 rfl) rfl
theorem q889 : (Jvm.Cond.code ({ cls := "java/lang/Integer", name := "valueOf", desc := "(I)Ljava/lang/Integer;" } : Jvm.MethodName) prog_28_method_22_code (1 : Nat) (Option.some (Jvm.ClassFile.FieldType.object "java/lang/Integer"))) ∈ lw_all := lw_g (lw_at lw_m4 74 rfl) rfl
theorem q890 : (Jvm.Cond.fieldLink "java/lang/Integer" (191 : Nat) "java/lang/Integer$IntegerCache" "high" "I") ∈ lw_all := lw_g (lw_at lw_m4 75 rfl) rfl
theorem q892 : (Jvm.Cond.fieldLink "java/lang/Integer" (195 : Nat) "java/lang/Integer$IntegerCache" "cache" "[Ljava/lang/Integer;") ∈ lw_all := lw_g (lw_at lw_m4 77 rfl) rfl
theorem q894 : (Jvm.Cond.classLink "java/lang/Integer" (1 : Nat) "java/lang/Integer") ∈ lw_all := lw_g (lw_at lw_m4 79 rfl) rfl
theorem q895 : (Jvm.Cond.instantiable "java/lang/Integer" (1 : Nat)) ∈ lw_all := lw_g (lw_at lw_m4 80 rfl) rfl
theorem q896 : (Jvm.Cond.methodLink "java/lang/Integer" (199 : Nat) ({ cls := "java/lang/Integer", name := "<init>", desc := "(I)V" } : Jvm.MethodName)) ∈ lw_all := lw_g (lw_at lw_m4 81 rfl) rfl
theorem q897 : (Jvm.Cond.instanceMethod ({ cls := "java/lang/Integer", name := "<init>", desc := "(I)V" } : Jvm.MethodName)) ∈ lw_all := lw_g (lw_at lw_m4 82 rfl) rfl
theorem q898 : (Jvm.Cond.code ({ cls := "java/lang/Integer", name := "<init>", desc := "(I)V" } : Jvm.MethodName) prog_28_method_23_code (2 : Nat) (Option.none : Option Jvm.ClassFile.FieldType)) ∈ lw_all := lw_g (lw_at lw_m4 83 rfl) rfl
theorem q899 : (Jvm.Cond.methodLink "java/lang/Integer" (202 : Nat) ({ cls := "java/lang/Number", name := "<init>", desc := "()V" } : Jvm.MethodName)) ∈ lw_all := lw_g (lw_at lw_m4 84 rfl) rfl
theorem q903 : (Jvm.Cond.fieldLink "java/lang/Integer" (205 : Nat) "java/lang/Integer" "value" "I") ∈ lw_all := lw_g (lw_at lw_m4 88 rfl) rfl
theorem q904 : (Jvm.Cond.laysFinal "java/lang/Integer" "java/lang/Integer" "value" "I") ∈ lw_all := lw_g (lw_at lw_m4 89 rfl) rfl
theorem q905 : (Jvm.Cond.soleField "java/lang/Integer" "value") ∈ lw_all := lw_g (lw_at lw_m4 90 rfl) rfl
theorem q906 : (Jvm.Cond.superclass "java/lang/Integer" "java/lang/Number") ∈ lw_all := lw_g (lw_at lw_m4 91 rfl) rfl
theorem q1057 : (Jvm.Cond.static ({ cls := "java/lang/Integer", name := "bitCount", desc := "(I)I" } : Jvm.MethodName)) ∈ lw_all := lw_g (lw_at lw_m5 2 rfl) rfl
theorem q1058 : (Jvm.Cond.code ({ cls := "java/lang/Integer", name := "bitCount", desc := "(I)I" } : Jvm.MethodName) prog_28_method_49_code (1 : Nat) (Option.some Jvm.ClassFile.FieldType.int)) ∈ lw_all := lw_g (lw_at lw_m5 3 rfl) rfl
theorem q1059 : (Jvm.Cond.constant "java/lang/Integer" (265 : Nat) (1431655765 : Int32)) ∈ lw_all := lw_g (lw_at lw_m5 4 rfl) rfl
theorem q1060 : (Jvm.Cond.constant "java/lang/Integer" (266 : Nat) (858993459 : Int32)) ∈ lw_all := lw_g (lw_at lw_m5 5 rfl) rfl
theorem q1061 : (Jvm.Cond.constant "java/lang/Integer" (267 : Nat) (252645135 : Int32)) ∈ lw_all := lw_g (lw_at lw_m5 6 rfl) rfl
theorem q1278 : (Jvm.Cond.static ({ cls := "java/lang/Integer", name := "numberOfTrailingZeros", desc := "(I)I" } : Jvm.MethodName)) ∈ lw_all := lw_g (lw_at lw_m5 223 rfl) rfl
theorem q1279 : (Jvm.Cond.code ({ cls := "java/lang/Integer", name := "numberOfTrailingZeros", desc := "(I)I" } : Jvm.MethodName) prog_28_method_48_code (2 : Nat) (Option.some Jvm.ClassFile.FieldType.int)) ∈ lw_all := lw_g (lw_at lw_m5 224 rfl) rfl
theorem q1280 : (Jvm.Cond.constant "java/lang/Integer" (264 : Nat) (65536 : Int32)) ∈ lw_all := lw_g (lw_at lw_m5 225 rfl) rfl
theorem q1514 : (Jvm.Cond.instanceMethod ({ cls := "java/lang/Integer", name := "intValue", desc := "()I" } : Jvm.MethodName)) ∈ lw_all := lw_g (lw_at lw_m6 219 rfl) rfl
theorem q1515 : (Jvm.Cond.selects "java/lang/Integer" ({ cls := "java/lang/Integer", name := "intValue", desc := "()I" } : Jvm.MethodName) ({ cls := "java/lang/Integer", name := "intValue", desc := "()I" } : Jvm.MethodName)) ∈ lw_all := lw_g (lw_at lw_m6 220 rfl) rfl
theorem q1516 : (Jvm.Cond.code ({ cls := "java/lang/Integer", name := "intValue", desc := "()I" } : Jvm.MethodName) prog_28_method_27_code (1 : Nat) (Option.some Jvm.ClassFile.FieldType.int)) ∈ lw_all := lw_g (lw_at lw_m6 221 rfl) rfl
theorem q2301 : (Jvm.Cond.castable "java/lang/Integer" "java/lang/Object") ∈ lw_tbl := lw_at lw_m10 46 rfl
theorem in_J17 : ∀ w ∈ wsJ170, w ∈ lw_all := lw_in wsJ170 [904] (by decide +kernel) (by decide +kernel)
theorem q132 : (Jvm.Cond.initialized "java/util/DualPivotQuicksort") ∈ lw_all := lw_g (lw_at lw_m1 37 rfl) rfl
theorem q1140 : (Jvm.Cond.static ({ cls := "java/util/DualPivotQuicksort", name := "sort", desc := "([IIII)V" } : Jvm.MethodName)) ∈ lw_all := lw_g (lw_at lw_m5 85 rfl) rfl
theorem q1141 : (Jvm.Cond.code ({ cls := "java/util/DualPivotQuicksort", name := "sort", desc := "([IIII)V" } : Jvm.MethodName) prog_46_method_3_code (7 : Nat) (Option.none : Option Jvm.ClassFile.FieldType)) ∈ lw_all := lw_g (lw_at lw_m5 86 rfl) rfl
theorem q1142 : (Jvm.Cond.methodLink "java/util/DualPivotQuicksort" (26 : Nat) ({ cls := "java/util/DualPivotQuicksort", name := "sort", desc := "(Ljava/util/DualPivotQuicksort$Sorter;[IIII)V" } : Jvm.MethodName)) ∈ lw_all := lw_g (lw_at lw_m5 87 rfl) rfl
theorem q1143 : (Jvm.Cond.static ({ cls := "java/util/DualPivotQuicksort", name := "sort", desc := "(Ljava/util/DualPivotQuicksort$Sorter;[IIII)V" } : Jvm.MethodName)) ∈ lw_all := lw_g (lw_at lw_m5 88 rfl) rfl
theorem q1144 : (Jvm.Cond.code ({ cls := "java/util/DualPivotQuicksort", name := "sort", desc := "(Ljava/util/DualPivotQuicksort$Sorter;[IIII)V" } : Jvm.MethodName) prog_46_method_4_code (21 : Nat) (Option.none : Option Jvm.ClassFile.FieldType)) ∈ lw_all := lw_g (lw_at lw_m5 89 rfl) rfl
theorem q1145 : (Jvm.Cond.methodLink "java/util/DualPivotQuicksort" (30 : Nat) ({ cls := "java/util/DualPivotQuicksort", name := "mixedInsertionSort", desc := "([IIII)V" } : Jvm.MethodName)) ∈ lw_all := lw_g (lw_at lw_m5 90 rfl) rfl
theorem q1146 : (Jvm.Cond.static ({ cls := "java/util/DualPivotQuicksort", name := "mixedInsertionSort", desc := "([IIII)V" } : Jvm.MethodName)) ∈ lw_all := lw_g (lw_at lw_m5 91 rfl) rfl
theorem q1147 : (Jvm.Cond.code ({ cls := "java/util/DualPivotQuicksort", name := "mixedInsertionSort", desc := "([IIII)V" } : Jvm.MethodName) prog_46_method_5_code (8 : Nat) (Option.none : Option Jvm.ClassFile.FieldType)) ∈ lw_all := lw_g (lw_at lw_m5 92 rfl) rfl
theorem q1148 : (Jvm.Cond.methodLink "java/util/DualPivotQuicksort" (34 : Nat) ({ cls := "java/util/DualPivotQuicksort", name := "insertionSort", desc := "([III)V" } : Jvm.MethodName)) ∈ lw_all := lw_g (lw_at lw_m5 93 rfl) rfl
theorem q1149 : (Jvm.Cond.static ({ cls := "java/util/DualPivotQuicksort", name := "insertionSort", desc := "([III)V" } : Jvm.MethodName)) ∈ lw_all := lw_g (lw_at lw_m5 94 rfl) rfl
theorem q1150 : (Jvm.Cond.code ({ cls := "java/util/DualPivotQuicksort", name := "insertionSort", desc := "([III)V" } : Jvm.MethodName) prog_46_method_6_code (6 : Nat) (Option.none : Option Jvm.ClassFile.FieldType)) ∈ lw_all := lw_g (lw_at lw_m5 95 rfl) rfl
theorem q1151 : (Jvm.Cond.methodLink "java/util/DualPivotQuicksort" (38 : Nat) ({ cls := "java/util/DualPivotQuicksort", name := "tryMergeRuns", desc := "(Ljava/util/DualPivotQuicksort$Sorter;[III)Z" } : Jvm.MethodName)) ∈ lw_all := lw_g (lw_at lw_m5 96 rfl) rfl
theorem q1152 : (Jvm.Cond.static ({ cls := "java/util/DualPivotQuicksort", name := "tryMergeRuns", desc := "(Ljava/util/DualPivotQuicksort$Sorter;[III)Z" } : Jvm.MethodName)) ∈ lw_all := lw_g (lw_at lw_m5 97 rfl) rfl
theorem q1153 : (Jvm.Cond.code ({ cls := "java/util/DualPivotQuicksort", name := "tryMergeRuns", desc := "(Ljava/util/DualPivotQuicksort$Sorter;[III)Z" } : Jvm.MethodName) prog_46_method_9_code (12 : Nat) (Option.some Jvm.ClassFile.FieldType.boolean)) ∈ lw_all := lw_g (lw_at lw_m5 98 rfl) rfl
theorem q1154 : (Jvm.Cond.methodLink "java/util/DualPivotQuicksort" (53 : Nat) ({ cls := "java/util/Arrays", name := "copyOf", desc := "([II)[I" } : Jvm.MethodName)) ∈ lw_all := lw_g (lw_at lw_m5 99 rfl) rfl
theorem q1155 : (Jvm.Cond.classLink "java/util/DualPivotQuicksort" (63 : Nat) "[I") ∈ lw_all := lw_g (lw_at lw_m5 100 rfl) rfl
theorem q1156 : (Jvm.Cond.methodLink "java/util/DualPivotQuicksort" (69 : Nat) ({ cls := "java/util/DualPivotQuicksort", name := "mergeRuns", desc := "([I[IIIZ[III)[I" } : Jvm.MethodName)) ∈ lw_all := lw_g (lw_at lw_m5 101 rfl) rfl
theorem q1157 : (Jvm.Cond.static ({ cls := "java/util/DualPivotQuicksort", name := "mergeRuns", desc := "([I[IIIZ[III)[I" } : Jvm.MethodName)) ∈ lw_all := lw_g (lw_at lw_m5 102 rfl) rfl
theorem q1158 : (Jvm.Cond.code ({ cls := "java/util/DualPivotQuicksort", name := "mergeRuns", desc := "([I[IIIZ[III)[I" } : Jvm.MethodName) prog_46_method_10_code (18 : Nat) (Option.some (Jvm.ClassFile.FieldType.array Jvm.ClassFile.FieldType.int))) ∈ lw_all := lw_g (lw_at lw_m5 103 rfl) rfl
theorem q1159 : (Jvm.Cond.methodLink "java/util/DualPivotQuicksort" (91 : Nat) ({ cls := "java/util/DualPivotQuicksort", name := "mergeParts", desc := "(Ljava/util/DualPivotQuicksort$Merger;[II[III[III)V" } : Jvm.MethodName)) ∈ lw_all := lw_g (lw_at lw_m5 104 rfl) rfl
theorem q1160 : (Jvm.Cond.static ({ cls := "java/util/DualPivotQuicksort", name := "mergeParts", desc := "(Ljava/util/DualPivotQuicksort$Merger;[II[III[III)V" } : Jvm.MethodName)) ∈ lw_all := lw_g (lw_at lw_m5 105 rfl) rfl
theorem q1161 : (Jvm.Cond.code ({ cls := "java/util/DualPivotQuicksort", name := "mergeParts", desc := "(Ljava/util/DualPivotQuicksort$Merger;[II[III[III)V" } : Jvm.MethodName) prog_46_method_11_code (14 : Nat) (Option.none : Option Jvm.ClassFile.FieldType)) ∈ lw_all := lw_g (lw_at lw_m5 106 rfl) rfl
theorem q1162 : (Jvm.Cond.methodLink "java/util/DualPivotQuicksort" (42 : Nat) ({ cls := "java/util/DualPivotQuicksort", name := "heapSort", desc := "([III)V" } : Jvm.MethodName)) ∈ lw_all := lw_g (lw_at lw_m5 107 rfl) rfl
theorem q1163 : (Jvm.Cond.static ({ cls := "java/util/DualPivotQuicksort", name := "heapSort", desc := "([III)V" } : Jvm.MethodName)) ∈ lw_all := lw_g (lw_at lw_m5 108 rfl) rfl
theorem q1164 : (Jvm.Cond.code ({ cls := "java/util/DualPivotQuicksort", name := "heapSort", desc := "([III)V" } : Jvm.MethodName) prog_46_method_7_code (4 : Nat) (Option.none : Option Jvm.ClassFile.FieldType)) ∈ lw_all := lw_g (lw_at lw_m5 109 rfl) rfl
theorem q1165 : (Jvm.Cond.methodLink "java/util/DualPivotQuicksort" (49 : Nat) ({ cls := "java/util/DualPivotQuicksort", name := "pushDown", desc := "([IIIII)V" } : Jvm.MethodName)) ∈ lw_all := lw_g (lw_at lw_m5 110 rfl) rfl
theorem q1166 : (Jvm.Cond.static ({ cls := "java/util/DualPivotQuicksort", name := "pushDown", desc := "([IIIII)V" } : Jvm.MethodName)) ∈ lw_all := lw_g (lw_at lw_m5 111 rfl) rfl
theorem q1167 : (Jvm.Cond.code ({ cls := "java/util/DualPivotQuicksort", name := "pushDown", desc := "([IIIII)V" } : Jvm.MethodName) prog_46_method_8_code (6 : Nat) (Option.none : Option Jvm.ClassFile.FieldType)) ∈ lw_all := lw_g (lw_at lw_m5 112 rfl) rfl
theorem q141 : (Jvm.Cond.instanceMethod ({ cls := "java/lang/Object", name := "<init>", desc := "()V" } : Jvm.MethodName)) ∈ lw_all := lw_g (lw_at lw_m1 46 rfl) rfl
theorem q142 : (Jvm.Cond.code ({ cls := "java/lang/Object", name := "<init>", desc := "()V" } : Jvm.MethodName) object_method_1_code (1 : Nat) (Option.none : Option Jvm.ClassFile.FieldType)) ∈ lw_all := lw_g (lw_at lw_m1 47 rfl) rfl
theorem q364 : (Jvm.Cond.native ({ cls := "java/lang/Object", name := "clone", desc := "()Ljava/lang/Object;" } : Jvm.MethodName)) ∈ lw_all := lw_g (lw_at lw_m2 29 rfl) rfl
theorem q365 : (Jvm.Cond.instanceMethod ({ cls := "java/lang/Object", name := "clone", desc := "()Ljava/lang/Object;" } : Jvm.MethodName)) ∈ lw_all := lw_g (lw_at lw_m2 30 rfl) rfl
theorem q745 : (Jvm.Cond.instanceMethod ({ cls := "java/lang/Object", name := "getClass", desc := "()Ljava/lang/Class;" } : Jvm.MethodName)) ∈ lw_all := lw_g (lw_at lw_m3 170 rfl) rfl
theorem q746 : (Jvm.Cond.sameMethod "java/lang/Object" "java/lang/Object" "getClass" "()Ljava/lang/Class;") ∈ lw_all := lw_g (lw_at lw_m3 171 rfl) rfl
theorem q768 : (Jvm.Cond.native ({ cls := "java/lang/Object", name := "getClass", desc := "()Ljava/lang/Class;" } : Jvm.MethodName)) ∈ lw_all := lw_g (lw_at lw_m3 193 rfl) rfl
theorem q2280 : (Jvm.Cond.initialized "java/lang/Object") ∈ lw_all := lw_g (lw_at lw_m10 25 rfl) rfl
theorem q2305 : (Jvm.Cond.declares ({ cls := "java/lang/Object", name := "getClass", desc := "()Ljava/lang/Class;" } : Jvm.MethodName)) ∈ lw_tbl := lw_at lw_m10 50 rfl
theorem q100 : (Jvm.Cond.initialized "java/util/ArrayList") ∈ lw_all := lw_g (lw_at lw_m1 5 rfl) rfl
theorem q150 : (Jvm.Cond.instantiable "java/util/ArrayList" (3 : Nat)) ∈ lw_all := lw_g (lw_at lw_m1 55 rfl) rfl
theorem q152 : (Jvm.Cond.instanceMethod ({ cls := "java/util/ArrayList", name := "<init>", desc := "(I)V" } : Jvm.MethodName)) ∈ lw_all := lw_g (lw_at lw_m1 57 rfl) rfl
theorem q153 : (Jvm.Cond.code ({ cls := "java/util/ArrayList", name := "<init>", desc := "(I)V" } : Jvm.MethodName) prog_43_method_1_code (2 : Nat) (Option.none : Option Jvm.ClassFile.FieldType)) ∈ lw_all := lw_g (lw_at lw_m1 58 rfl) rfl
theorem q154 : (Jvm.Cond.methodLink "java/util/ArrayList" (1 : Nat) ({ cls := "java/util/AbstractList", name := "<init>", desc := "()V" } : Jvm.MethodName)) ∈ lw_all := lw_g (lw_at lw_m1 59 rfl) rfl
theorem q161 : (Jvm.Cond.classLink "java/util/ArrayList" (7 : Nat) "java/lang/Object") ∈ lw_all := lw_g (lw_at lw_m1 66 rfl) rfl
theorem q163 : (Jvm.Cond.fieldLink "java/util/ArrayList" (15 : Nat) "java/util/ArrayList" "EMPTY_ELEMENTDATA" "[Ljava/lang/Object;") ∈ lw_all := lw_g (lw_at lw_m1 68 rfl) rfl
theorem q164 : (Jvm.Cond.laysStatic "java/util/ArrayList" "EMPTY_ELEMENTDATA" "[Ljava/lang/Object;") ∈ lw_tbl := lw_at lw_m1 69 rfl
theorem q165 : (Jvm.Cond.fieldLink "java/util/ArrayList" (9 : Nat) "java/util/ArrayList" "elementData" "[Ljava/lang/Object;") ∈ lw_all := lw_g (lw_at lw_m1 70 rfl) rfl
theorem q166 : (Jvm.Cond.fieldLink "java/util/ArrayList" (48 : Nat) "java/util/ArrayList" "size" "I") ∈ lw_all := lw_g (lw_at lw_m1 71 rfl) rfl
theorem q168 : (Jvm.Cond.fieldLink "java/util/ArrayList" (63 : Nat) "java/util/ArrayList" "modCount" "I") ∈ lw_all := lw_g (lw_at lw_m1 73 rfl) rfl
theorem q169 : (Jvm.Cond.sameField "java/util/ArrayList" "java/util/AbstractList" "modCount" "I") ∈ lw_all := lw_g (lw_at lw_m1 74 rfl) rfl
theorem q170 : (Jvm.Cond.lays "java/util/ArrayList" "java/util/ArrayList" "elementData" "[Ljava/lang/Object;") ∈ lw_all := lw_g (lw_at lw_m1 75 rfl) rfl
theorem q171 : (Jvm.Cond.soleField "java/util/ArrayList" "elementData") ∈ lw_all := lw_g (lw_at lw_m1 76 rfl) rfl
theorem q172 : (Jvm.Cond.lays "java/util/ArrayList" "java/util/ArrayList" "size" "I") ∈ lw_all := lw_g (lw_at lw_m1 77 rfl) rfl
theorem q173 : (Jvm.Cond.soleField "java/util/ArrayList" "size") ∈ lw_all := lw_g (lw_at lw_m1 78 rfl) rfl
theorem q174 : (Jvm.Cond.lays "java/util/ArrayList" "java/util/AbstractList" "modCount" "I") ∈ lw_all := lw_g (lw_at lw_m1 79 rfl) rfl
theorem q176 : (Jvm.Cond.superclass "java/util/ArrayList" "java/util/AbstractList") ∈ lw_all := lw_g (lw_at lw_m1 81 rfl) rfl
theorem q259 : (Jvm.Cond.instanceMethod ({ cls := "java/util/ArrayList", name := "size", desc := "()I" } : Jvm.MethodName)) ∈ lw_all := lw_g (lw_at lw_m1 164 rfl) rfl
theorem q260 : (Jvm.Cond.selects "java/util/ArrayList" ({ cls := "java/util/ArrayList", name := "size", desc := "()I" } : Jvm.MethodName) ({ cls := "java/util/ArrayList", name := "size", desc := "()I" } : Jvm.MethodName)) ∈ lw_all := lw_g (lw_at lw_m1 165 rfl) rfl
theorem q261 : (Jvm.Cond.code ({ cls := "java/util/ArrayList", name := "size", desc := "()I" } : Jvm.MethodName) prog_43_method_8_code (1 : Nat) (Option.some Jvm.ClassFile.FieldType.int)) ∈ lw_all := lw_g (lw_at lw_m1 166 rfl) rfl
theorem q723 : (Jvm.Cond.instanceMethod ({ cls := "java/util/ArrayList", name := "add", desc := "(Ljava/lang/Object;)Z" } : Jvm.MethodName)) ∈ lw_all := lw_g (lw_at lw_m3 148 rfl) rfl
theorem q724 : (Jvm.Cond.selects "java/util/ArrayList" ({ cls := "java/util/ArrayList", name := "add", desc := "(Ljava/lang/Object;)Z" } : Jvm.MethodName) ({ cls := "java/util/ArrayList", name := "add", desc := "(Ljava/lang/Object;)Z" } : Jvm.MethodName)) ∈ lw_all := lw_g (lw_at lw_m3 149 rfl) rfl
theorem q725 : (Jvm.Cond.code ({ cls := "java/util/ArrayList", name := "add", desc := "(Ljava/lang/Object;)Z" } : Jvm.MethodName) prog_43_method_25_code (2 : Nat) (Option.some Jvm.ClassFile.FieldType.boolean)) ∈ lw_all := lw_g (lw_at lw_m3 150 rfl) rfl
theorem q726 : (Jvm.Cond.methodLink "java/util/ArrayList" (131 : Nat) ({ cls := "java/util/ArrayList", name := "add", desc := "(Ljava/lang/Object;[Ljava/lang/Object;I)V" } : Jvm.MethodName)) ∈ lw_all := lw_g (lw_at lw_m3 151 rfl) rfl
theorem q727 : (Jvm.Cond.privateMethod ({ cls := "java/util/ArrayList", name := "add", desc := "(Ljava/lang/Object;[Ljava/lang/Object;I)V" } : Jvm.MethodName)) ∈ lw_tbl := lw_at lw_m3 152 rfl
theorem q728 : (Jvm.Cond.instanceMethod ({ cls := "java/util/ArrayList", name := "add", desc := "(Ljava/lang/Object;[Ljava/lang/Object;I)V" } : Jvm.MethodName)) ∈ lw_all := lw_g (lw_at lw_m3 153 rfl) rfl
theorem q729 : (Jvm.Cond.code ({ cls := "java/util/ArrayList", name := "add", desc := "(Ljava/lang/Object;[Ljava/lang/Object;I)V" } : Jvm.MethodName) prog_43_method_24_code (4 : Nat) (Option.none : Option Jvm.ClassFile.FieldType)) ∈ lw_all := lw_g (lw_at lw_m3 154 rfl) rfl
theorem q730 : (Jvm.Cond.methodLink "java/util/ArrayList" (129 : Nat) ({ cls := "java/util/ArrayList", name := "grow", desc := "()[Ljava/lang/Object;" } : Jvm.MethodName)) ∈ lw_all := lw_g (lw_at lw_m3 155 rfl) rfl
theorem q731 : (Jvm.Cond.privateMethod ({ cls := "java/util/ArrayList", name := "grow", desc := "()[Ljava/lang/Object;" } : Jvm.MethodName)) ∈ lw_tbl := lw_at lw_m3 156 rfl
theorem q732 : (Jvm.Cond.instanceMethod ({ cls := "java/util/ArrayList", name := "grow", desc := "()[Ljava/lang/Object;" } : Jvm.MethodName)) ∈ lw_all := lw_g (lw_at lw_m3 157 rfl) rfl
theorem q733 : (Jvm.Cond.code ({ cls := "java/util/ArrayList", name := "grow", desc := "()[Ljava/lang/Object;" } : Jvm.MethodName) prog_43_method_7_code (1 : Nat) (Option.some (Jvm.ClassFile.FieldType.array (Jvm.ClassFile.FieldType.object "java/lang/Object")))) ∈ lw_all := lw_g (lw_at lw_m3 158 rfl) rfl
theorem q734 : (Jvm.Cond.methodLink "java/util/ArrayList" (69 : Nat) ({ cls := "java/util/ArrayList", name := "grow", desc := "(I)[Ljava/lang/Object;" } : Jvm.MethodName)) ∈ lw_all := lw_g (lw_at lw_m3 159 rfl) rfl
theorem q735 : (Jvm.Cond.privateMethod ({ cls := "java/util/ArrayList", name := "grow", desc := "(I)[Ljava/lang/Object;" } : Jvm.MethodName)) ∈ lw_tbl := lw_at lw_m3 160 rfl
theorem q736 : (Jvm.Cond.instanceMethod ({ cls := "java/util/ArrayList", name := "grow", desc := "(I)[Ljava/lang/Object;" } : Jvm.MethodName)) ∈ lw_all := lw_g (lw_at lw_m3 161 rfl) rfl
theorem q737 : (Jvm.Cond.code ({ cls := "java/util/ArrayList", name := "grow", desc := "(I)[Ljava/lang/Object;" } : Jvm.MethodName) prog_43_method_6_code (4 : Nat) (Option.some (Jvm.ClassFile.FieldType.array (Jvm.ClassFile.FieldType.object "java/lang/Object")))) ∈ lw_all := lw_g (lw_at lw_m3 162 rfl) rfl
theorem q738 : (Jvm.Cond.fieldLink "java/util/ArrayList" (39 : Nat) "java/util/ArrayList" "DEFAULTCAPACITY_EMPTY_ELEMENTDATA" "[Ljava/lang/Object;") ∈ lw_all := lw_g (lw_at lw_m3 163 rfl) rfl
theorem q739 : (Jvm.Cond.laysStatic "java/util/ArrayList" "DEFAULTCAPACITY_EMPTY_ELEMENTDATA" "[Ljava/lang/Object;") ∈ lw_tbl := lw_at lw_m3 164 rfl
theorem q740 : (Jvm.Cond.methodLink "java/util/ArrayList" (73 : Nat) ({ cls := "jdk/internal/util/ArraysSupport", name := "newLength", desc := "(III)I" } : Jvm.MethodName)) ∈ lw_all := lw_g (lw_at lw_m3 165 rfl) rfl
theorem q741 : (Jvm.Cond.methodLink "java/util/ArrayList" (66 : Nat) ({ cls := "java/util/Arrays", name := "copyOf", desc := "([Ljava/lang/Object;I)[Ljava/lang/Object;" } : Jvm.MethodName)) ∈ lw_all := lw_g (lw_at lw_m3 166 rfl) rfl
theorem q767 : (Jvm.Cond.selects "java/util/ArrayList" ({ cls := "java/lang/Object", name := "getClass", desc := "()Ljava/lang/Class;" } : Jvm.MethodName) ({ cls := "java/lang/Object", name := "getClass", desc := "()Ljava/lang/Class;" } : Jvm.MethodName)) ∈ lw_all := lw_g (lw_at lw_m3 192 rfl) rfl
theorem q774 : (Jvm.Cond.methodLink "java/util/ArrayList" (79 : Nat) ({ cls := "java/lang/Math", name := "max", desc := "(II)I" } : Jvm.MethodName)) ∈ lw_all := lw_g (lw_at lw_m3 199 rfl) rfl
theorem q851 : (Jvm.Cond.instanceMethod ({ cls := "java/util/ArrayList", name := "get", desc := "(I)Ljava/lang/Object;" } : Jvm.MethodName)) ∈ lw_all := lw_g (lw_at lw_m4 36 rfl) rfl
theorem q852 : (Jvm.Cond.selects "java/util/ArrayList" ({ cls := "java/util/ArrayList", name := "get", desc := "(I)Ljava/lang/Object;" } : Jvm.MethodName) ({ cls := "java/util/ArrayList", name := "get", desc := "(I)Ljava/lang/Object;" } : Jvm.MethodName)) ∈ lw_all := lw_g (lw_at lw_m4 37 rfl) rfl
theorem q853 : (Jvm.Cond.code ({ cls := "java/util/ArrayList", name := "get", desc := "(I)Ljava/lang/Object;" } : Jvm.MethodName) prog_43_method_20_code (2 : Nat) (Option.some (Jvm.ClassFile.FieldType.object "java/lang/Object"))) ∈ lw_all := lw_g (lw_at lw_m4 38 rfl) rfl
theorem q854 : (Jvm.Cond.methodLink "java/util/ArrayList" (118 : Nat) ({ cls := "java/util/Objects", name := "checkIndex", desc := "(II)I" } : Jvm.MethodName)) ∈ lw_all := lw_g (lw_at lw_m4 39 rfl) rfl
theorem q858 : (Jvm.Cond.methodLink "java/util/ArrayList" (123 : Nat) ({ cls := "java/util/ArrayList", name := "elementData", desc := "(I)Ljava/lang/Object;" } : Jvm.MethodName)) ∈ lw_all := lw_g (lw_at lw_m4 43 rfl) rfl
theorem q859 : (Jvm.Cond.instanceMethod ({ cls := "java/util/ArrayList", name := "elementData", desc := "(I)Ljava/lang/Object;" } : Jvm.MethodName)) ∈ lw_all := lw_g (lw_at lw_m4 44 rfl) rfl
theorem q860 : (Jvm.Cond.selects "java/util/ArrayList" ({ cls := "java/util/ArrayList", name := "elementData", desc := "(I)Ljava/lang/Object;" } : Jvm.MethodName) ({ cls := "java/util/ArrayList", name := "elementData", desc := "(I)Ljava/lang/Object;" } : Jvm.MethodName)) ∈ lw_all := lw_g (lw_at lw_m4 45 rfl) rfl
theorem q861 : (Jvm.Cond.code ({ cls := "java/util/ArrayList", name := "elementData", desc := "(I)Ljava/lang/Object;" } : Jvm.MethodName) prog_43_method_18_code (2 : Nat) (Option.some (Jvm.ClassFile.FieldType.object "java/lang/Object"))) ∈ lw_all := lw_g (lw_at lw_m4 46 rfl) rfl
theorem q942 : (Jvm.Cond.instanceMethod ({ cls := "java/util/ArrayList", name := "isEmpty", desc := "()Z" } : Jvm.MethodName)) ∈ lw_all := lw_g (lw_at lw_m4 127 rfl) rfl
theorem q943 : (Jvm.Cond.selects "java/util/ArrayList" ({ cls := "java/util/ArrayList", name := "isEmpty", desc := "()Z" } : Jvm.MethodName) ({ cls := "java/util/ArrayList", name := "isEmpty", desc := "()Z" } : Jvm.MethodName)) ∈ lw_all := lw_g (lw_at lw_m4 128 rfl) rfl
theorem q944 : (Jvm.Cond.code ({ cls := "java/util/ArrayList", name := "isEmpty", desc := "()Z" } : Jvm.MethodName) prog_43_method_9_code (1 : Nat) (Option.some Jvm.ClassFile.FieldType.boolean)) ∈ lw_all := lw_g (lw_at lw_m4 129 rfl) rfl
theorem q951 : (Jvm.Cond.instanceMethod ({ cls := "java/util/ArrayList", name := "set", desc := "(ILjava/lang/Object;)Ljava/lang/Object;" } : Jvm.MethodName)) ∈ lw_all := lw_g (lw_at lw_m4 136 rfl) rfl
theorem q952 : (Jvm.Cond.selects "java/util/ArrayList" ({ cls := "java/util/ArrayList", name := "set", desc := "(ILjava/lang/Object;)Ljava/lang/Object;" } : Jvm.MethodName) ({ cls := "java/util/ArrayList", name := "set", desc := "(ILjava/lang/Object;)Ljava/lang/Object;" } : Jvm.MethodName)) ∈ lw_all := lw_g (lw_at lw_m4 137 rfl) rfl
theorem q953 : (Jvm.Cond.code ({ cls := "java/util/ArrayList", name := "set", desc := "(ILjava/lang/Object;)Ljava/lang/Object;" } : Jvm.MethodName) prog_43_method_23_code (4 : Nat) (Option.some (Jvm.ClassFile.FieldType.object "java/lang/Object"))) ∈ lw_all := lw_g (lw_at lw_m4 138 rfl) rfl
theorem q962 : (Jvm.Cond.instanceMethod ({ cls := "java/util/ArrayList", name := "<init>", desc := "()V" } : Jvm.MethodName)) ∈ lw_all := lw_g (lw_at lw_m4 147 rfl) rfl
theorem q963 : (Jvm.Cond.code ({ cls := "java/util/ArrayList", name := "<init>", desc := "()V" } : Jvm.MethodName) prog_43_method_2_code (1 : Nat) (Option.none : Option Jvm.ClassFile.FieldType)) ∈ lw_all := lw_g (lw_at lw_m4 148 rfl) rfl
theorem q1593 : (Jvm.Cond.instanceMethod ({ cls := "java/util/ArrayList", name := "clear", desc := "()V" } : Jvm.MethodName)) ∈ lw_all := lw_g (lw_at lw_m7 58 rfl) rfl
theorem q1594 : (Jvm.Cond.selects "java/util/ArrayList" ({ cls := "java/util/ArrayList", name := "clear", desc := "()V" } : Jvm.MethodName) ({ cls := "java/util/ArrayList", name := "clear", desc := "()V" } : Jvm.MethodName)) ∈ lw_all := lw_g (lw_at lw_m7 59 rfl) rfl
theorem q1595 : (Jvm.Cond.code ({ cls := "java/util/ArrayList", name := "clear", desc := "()V" } : Jvm.MethodName) prog_43_method_40_code (4 : Nat) (Option.none : Option Jvm.ClassFile.FieldType)) ∈ lw_all := lw_g (lw_at lw_m7 60 rfl) rfl
theorem q1597 : (Jvm.Cond.instanceMethod ({ cls := "java/util/ArrayList", name := "addAll", desc := "(Ljava/util/Collection;)Z" } : Jvm.MethodName)) ∈ lw_all := lw_g (lw_at lw_m7 62 rfl) rfl
theorem q1598 : (Jvm.Cond.selects "java/util/ArrayList" ({ cls := "java/util/ArrayList", name := "addAll", desc := "(Ljava/util/Collection;)Z" } : Jvm.MethodName) ({ cls := "java/util/ArrayList", name := "addAll", desc := "(Ljava/util/Collection;)Z" } : Jvm.MethodName)) ∈ lw_all := lw_g (lw_at lw_m7 63 rfl) rfl
theorem q1599 : (Jvm.Cond.code ({ cls := "java/util/ArrayList", name := "addAll", desc := "(Ljava/util/Collection;)Z" } : Jvm.MethodName) prog_43_method_41_code (6 : Nat) (Option.some Jvm.ClassFile.FieldType.boolean)) ∈ lw_all := lw_g (lw_at lw_m7 64 rfl) rfl
theorem q1600 : (Jvm.Cond.interfaceEntry "java/util/ArrayList" (42 : Nat)) ∈ lw_tbl := lw_at lw_m7 65 rfl
theorem q1601 : (Jvm.Cond.methodLink "java/util/ArrayList" (42 : Nat) ({ cls := "java/util/Collection", name := "toArray", desc := "()[Ljava/lang/Object;" } : Jvm.MethodName)) ∈ lw_all := lw_g (lw_at lw_m7 66 rfl) rfl
theorem q1604 : (Jvm.Cond.castable "java/util/ArrayList" "java/util/Collection") ∈ lw_tbl := lw_at lw_m7 69 rfl
theorem q1605 : (Jvm.Cond.selects "java/util/ArrayList" ({ cls := "java/util/Collection", name := "toArray", desc := "()[Ljava/lang/Object;" } : Jvm.MethodName) ({ cls := "java/util/ArrayList", name := "toArray", desc := "()[Ljava/lang/Object;" } : Jvm.MethodName)) ∈ lw_all := lw_g (lw_at lw_m7 70 rfl) rfl
theorem q1606 : (Jvm.Cond.unhidden "java/util/ArrayList" "toArray" "()[Ljava/lang/Object;") ∈ lw_tbl := lw_at lw_m7 71 rfl
theorem q1607 : (Jvm.Cond.instanceMethod ({ cls := "java/util/ArrayList", name := "toArray", desc := "()[Ljava/lang/Object;" } : Jvm.MethodName)) ∈ lw_all := lw_g (lw_at lw_m7 72 rfl) rfl
theorem q1608 : (Jvm.Cond.publicMethod ({ cls := "java/util/ArrayList", name := "toArray", desc := "()[Ljava/lang/Object;" } : Jvm.MethodName)) ∈ lw_tbl := lw_at lw_m7 73 rfl
theorem q1609 : (Jvm.Cond.code ({ cls := "java/util/ArrayList", name := "toArray", desc := "()[Ljava/lang/Object;" } : Jvm.MethodName) prog_43_method_16_code (1 : Nat) (Option.some (Jvm.ClassFile.FieldType.array (Jvm.ClassFile.FieldType.object "java/lang/Object")))) ∈ lw_all := lw_g (lw_at lw_m7 74 rfl) rfl
theorem q1610 : (Jvm.Cond.methodLink "java/util/ArrayList" (112 : Nat) ({ cls := "java/lang/System", name := "arraycopy", desc := "(Ljava/lang/Object;ILjava/lang/Object;II)V" } : Jvm.MethodName)) ∈ lw_all := lw_g (lw_at lw_m7 75 rfl) rfl
theorem q2285 : (Jvm.Cond.castable "java/util/ArrayList" "java/lang/Object") ∈ lw_tbl := lw_at lw_m10 30 rfl
theorem in_J2 : ∀ w ∈ wsJ20, w ∈ lw_all := lw_in wsJ20 [174, 170, 172] (by decide +kernel) (by decide +kernel)
theorem q105 : (Jvm.Cond.initialized "java/lang/Enum") ∈ lw_all := lw_g (lw_at lw_m1 10 rfl) rfl
theorem q1371 : (Jvm.Cond.declares ({ cls := "java/lang/Enum", name := "ordinal", desc := "()I" } : Jvm.MethodName)) ∈ lw_tbl := lw_at lw_m6 76 rfl
theorem q1373 : (Jvm.Cond.instanceMethod ({ cls := "java/lang/Enum", name := "ordinal", desc := "()I" } : Jvm.MethodName)) ∈ lw_all := lw_g (lw_at lw_m6 78 rfl) rfl
theorem q1374 : (Jvm.Cond.code ({ cls := "java/lang/Enum", name := "ordinal", desc := "()I" } : Jvm.MethodName) prog_26_method_2_code (1 : Nat) (Option.some Jvm.ClassFile.FieldType.int)) ∈ lw_all := lw_g (lw_at lw_m6 79 rfl) rfl
theorem q2315 : (Jvm.Cond.fieldLink "java/lang/Enum" (7 : Nat) "java/lang/Enum" "ordinal" "I") ∈ lw_all := lw_g (lw_at lw_m10 60 rfl) rfl
theorem q107 : (Jvm.Cond.initialized "java/lang/AbstractStringBuilder") ∈ lw_all := lw_g (lw_at lw_m1 12 rfl) rfl
theorem q301 : (Jvm.Cond.instanceMethod ({ cls := "java/lang/AbstractStringBuilder", name := "<init>", desc := "(I)V" } : Jvm.MethodName)) ∈ lw_all := lw_g (lw_at lw_m1 206 rfl) rfl
theorem q302 : (Jvm.Cond.code ({ cls := "java/lang/AbstractStringBuilder", name := "<init>", desc := "(I)V" } : Jvm.MethodName) prog_21_method_2_code (2 : Nat) (Option.none : Option Jvm.ClassFile.FieldType)) ∈ lw_all := lw_g (lw_at lw_m1 207 rfl) rfl
theorem q303 : (Jvm.Cond.methodLink "java/lang/AbstractStringBuilder" (3 : Nat) ({ cls := "java/lang/Object", name := "<init>", desc := "()V" } : Jvm.MethodName)) ∈ lw_all := lw_g (lw_at lw_m1 208 rfl) rfl
theorem q304 : (Jvm.Cond.fieldLink "java/lang/AbstractStringBuilder" (18 : Nat) "java/lang/String" "COMPACT_STRINGS" "Z") ∈ lw_all := lw_g (lw_at lw_m1 209 rfl) rfl
theorem q306 : (Jvm.Cond.methodLink "java/lang/AbstractStringBuilder" (26 : Nat) ({ cls := "java/lang/StringUTF16", name := "newBytesFor", desc := "(I)[B" } : Jvm.MethodName)) ∈ lw_all := lw_g (lw_at lw_m1 211 rfl) rfl
theorem q313 : (Jvm.Cond.fieldLink "java/lang/AbstractStringBuilder" (15 : Nat) "java/lang/AbstractStringBuilder" "value" "[B") ∈ lw_all := lw_g (lw_at lw_m1 218 rfl) rfl
theorem q314 : (Jvm.Cond.fieldLink "java/lang/AbstractStringBuilder" (22 : Nat) "java/lang/AbstractStringBuilder" "coder" "B") ∈ lw_all := lw_g (lw_at lw_m1 219 rfl) rfl
theorem q316 : (Jvm.Cond.fieldLink "java/lang/AbstractStringBuilder" (79 : Nat) "java/lang/AbstractStringBuilder" "count" "I") ∈ lw_all := lw_g (lw_at lw_m1 221 rfl) rfl
theorem q318 : (Jvm.Cond.soleField "java/lang/AbstractStringBuilder" "value") ∈ lw_all := lw_g (lw_at lw_m1 223 rfl) rfl
theorem q320 : (Jvm.Cond.soleField "java/lang/AbstractStringBuilder" "coder") ∈ lw_all := lw_g (lw_at lw_m1 225 rfl) rfl
theorem q322 : (Jvm.Cond.soleField "java/lang/AbstractStringBuilder" "maybeLatin1") ∈ lw_all := lw_g (lw_at lw_m1 227 rfl) rfl
theorem q324 : (Jvm.Cond.soleField "java/lang/AbstractStringBuilder" "count") ∈ lw_all := lw_g (lw_at lw_m1 229 rfl) rfl
theorem q331 : (Jvm.Cond.instanceMethod ({ cls := "java/lang/AbstractStringBuilder", name := "length", desc := "()I" } : Jvm.MethodName)) ∈ lw_all := lw_g (lw_at lw_m1 236 rfl) rfl
theorem q332 : (Jvm.Cond.code ({ cls := "java/lang/AbstractStringBuilder", name := "length", desc := "()I" } : Jvm.MethodName) prog_21_method_6_code (1 : Nat) (Option.some Jvm.ClassFile.FieldType.int)) ∈ lw_all := lw_g (lw_at lw_m1 237 rfl) rfl
theorem q338 : (Jvm.Cond.instanceMethod ({ cls := "java/lang/AbstractStringBuilder", name := "append", desc := "(C)Ljava/lang/AbstractStringBuilder;" } : Jvm.MethodName)) ∈ lw_all := lw_g (lw_at lw_m2 3 rfl) rfl
theorem q339 : (Jvm.Cond.code ({ cls := "java/lang/AbstractStringBuilder", name := "append", desc := "(C)Ljava/lang/AbstractStringBuilder;" } : Jvm.MethodName) prog_21_method_31_code (2 : Nat) (Option.some (Jvm.ClassFile.FieldType.object "java/lang/AbstractStringBuilder"))) ∈ lw_all := lw_g (lw_at lw_m2 4 rfl) rfl
theorem q340 : (Jvm.Cond.methodLink "java/lang/AbstractStringBuilder" (100 : Nat) ({ cls := "java/lang/AbstractStringBuilder", name := "ensureCapacityInternal", desc := "(I)V" } : Jvm.MethodName)) ∈ lw_all := lw_g (lw_at lw_m2 5 rfl) rfl
theorem q341 : (Jvm.Cond.privateMethod ({ cls := "java/lang/AbstractStringBuilder", name := "ensureCapacityInternal", desc := "(I)V" } : Jvm.MethodName)) ∈ lw_tbl := lw_at lw_m2 6 rfl
theorem q342 : (Jvm.Cond.instanceMethod ({ cls := "java/lang/AbstractStringBuilder", name := "ensureCapacityInternal", desc := "(I)V" } : Jvm.MethodName)) ∈ lw_all := lw_g (lw_at lw_m2 7 rfl) rfl
theorem q343 : (Jvm.Cond.code ({ cls := "java/lang/AbstractStringBuilder", name := "ensureCapacityInternal", desc := "(I)V" } : Jvm.MethodName) prog_21_method_9_code (3 : Nat) (Option.none : Option Jvm.ClassFile.FieldType)) ∈ lw_all := lw_g (lw_at lw_m2 8 rfl) rfl
theorem q344 : (Jvm.Cond.methodLink "java/lang/AbstractStringBuilder" (104 : Nat) ({ cls := "java/lang/AbstractStringBuilder", name := "newCapacity", desc := "(I)I" } : Jvm.MethodName)) ∈ lw_all := lw_g (lw_at lw_m2 9 rfl) rfl
theorem q345 : (Jvm.Cond.privateMethod ({ cls := "java/lang/AbstractStringBuilder", name := "newCapacity", desc := "(I)I" } : Jvm.MethodName)) ∈ lw_tbl := lw_at lw_m2 10 rfl
theorem q346 : (Jvm.Cond.instanceMethod ({ cls := "java/lang/AbstractStringBuilder", name := "newCapacity", desc := "(I)I" } : Jvm.MethodName)) ∈ lw_all := lw_g (lw_at lw_m2 11 rfl) rfl
theorem q347 : (Jvm.Cond.code ({ cls := "java/lang/AbstractStringBuilder", name := "newCapacity", desc := "(I)I" } : Jvm.MethodName) prog_21_method_10_code (6 : Nat) (Option.some Jvm.ClassFile.FieldType.int)) ∈ lw_all := lw_g (lw_at lw_m2 12 rfl) rfl
theorem q348 : (Jvm.Cond.methodLink "java/lang/AbstractStringBuilder" (114 : Nat) ({ cls := "jdk/internal/util/ArraysSupport", name := "newLength", desc := "(III)I" } : Jvm.MethodName)) ∈ lw_all := lw_g (lw_at lw_m2 13 rfl) rfl
theorem q358 : (Jvm.Cond.constant "java/lang/AbstractStringBuilder" (39 : Nat) (2147483647 : Int32)) ∈ lw_all := lw_g (lw_at lw_m2 23 rfl) rfl
theorem q359 : (Jvm.Cond.methodLink "java/lang/AbstractStringBuilder" (108 : Nat) ({ cls := "java/util/Arrays", name := "copyOf", desc := "([BI)[B" } : Jvm.MethodName)) ∈ lw_all := lw_g (lw_at lw_m2 24 rfl) rfl
theorem q375 : (Jvm.Cond.methodLink "java/lang/AbstractStringBuilder" (83 : Nat) ({ cls := "java/lang/AbstractStringBuilder", name := "isLatin1", desc := "()Z" } : Jvm.MethodName)) ∈ lw_all := lw_g (lw_at lw_m2 40 rfl) rfl
theorem q376 : (Jvm.Cond.instanceMethod ({ cls := "java/lang/AbstractStringBuilder", name := "isLatin1", desc := "()Z" } : Jvm.MethodName)) ∈ lw_all := lw_g (lw_at lw_m2 41 rfl) rfl
theorem q377 : (Jvm.Cond.sameMethod "java/lang/AbstractStringBuilder" "java/lang/AbstractStringBuilder" "isLatin1" "()Z") ∈ lw_all := lw_g (lw_at lw_m2 42 rfl) rfl
theorem q379 : (Jvm.Cond.code ({ cls := "java/lang/AbstractStringBuilder", name := "isLatin1", desc := "()Z" } : Jvm.MethodName) prog_21_method_68_code (1 : Nat) (Option.some Jvm.ClassFile.FieldType.boolean)) ∈ lw_all := lw_g (lw_at lw_m2 44 rfl) rfl
theorem q380 : (Jvm.Cond.methodLink "java/lang/AbstractStringBuilder" (191 : Nat) ({ cls := "java/lang/StringLatin1", name := "canEncode", desc := "(C)Z" } : Jvm.MethodName)) ∈ lw_all := lw_g (lw_at lw_m2 45 rfl) rfl
theorem q383 : (Jvm.Cond.methodLink "java/lang/AbstractStringBuilder" (195 : Nat) ({ cls := "java/lang/AbstractStringBuilder", name := "inflate", desc := "()V" } : Jvm.MethodName)) ∈ lw_all := lw_g (lw_at lw_m2 48 rfl) rfl
theorem q384 : (Jvm.Cond.privateMethod ({ cls := "java/lang/AbstractStringBuilder", name := "inflate", desc := "()V" } : Jvm.MethodName)) ∈ lw_tbl := lw_at lw_m2 49 rfl
theorem q385 : (Jvm.Cond.instanceMethod ({ cls := "java/lang/AbstractStringBuilder", name := "inflate", desc := "()V" } : Jvm.MethodName)) ∈ lw_all := lw_g (lw_at lw_m2 50 rfl) rfl
theorem q386 : (Jvm.Cond.code ({ cls := "java/lang/AbstractStringBuilder", name := "inflate", desc := "()V" } : Jvm.MethodName) prog_21_method_11_code (2 : Nat) (Option.none : Option Jvm.ClassFile.FieldType)) ∈ lw_all := lw_g (lw_at lw_m2 51 rfl) rfl
theorem q387 : (Jvm.Cond.methodLink "java/lang/AbstractStringBuilder" (125 : Nat) ({ cls := "java/lang/StringLatin1", name := "inflate", desc := "([BI[BII)V" } : Jvm.MethodName)) ∈ lw_all := lw_g (lw_at lw_m2 52 rfl) rfl
theorem q416 : (Jvm.Cond.methodLink "java/lang/AbstractStringBuilder" (197 : Nat) ({ cls := "java/lang/StringUTF16", name := "putCharSB", desc := "([BII)V" } : Jvm.MethodName)) ∈ lw_all := lw_g (lw_at lw_m2 81 rfl) rfl
theorem q442 : (Jvm.Cond.instanceMethod ({ cls := "java/lang/AbstractStringBuilder", name := "getValue", desc := "()[B" } : Jvm.MethodName)) ∈ lw_all := lw_g (lw_at lw_m2 107 rfl) rfl
theorem q443 : (Jvm.Cond.sameMethod "java/lang/AbstractStringBuilder" "java/lang/AbstractStringBuilder" "getValue" "()[B") ∈ lw_all := lw_g (lw_at lw_m2 108 rfl) rfl
theorem q445 : (Jvm.Cond.code ({ cls := "java/lang/AbstractStringBuilder", name := "getValue", desc := "()[B" } : Jvm.MethodName) prog_21_method_64_code (1 : Nat) (Option.some (Jvm.ClassFile.FieldType.array Jvm.ClassFile.FieldType.byte))) ∈ lw_all := lw_g (lw_at lw_m2 110 rfl) rfl
theorem q2261 : (Jvm.Cond.sameMethod "java/lang/AbstractStringBuilder" "java/lang/AbstractStringBuilder" "length" "()I") ∈ lw_all := lw_g (lw_at lw_m10 6 rfl) rfl
theorem q2262 : (Jvm.Cond.sameMethod "java/lang/AbstractStringBuilder" "java/lang/AbstractStringBuilder" "append" "(C)Ljava/lang/AbstractStringBuilder;") ∈ lw_all := lw_g (lw_at lw_m10 7 rfl) rfl
theorem q2263 : (Jvm.Cond.sameMethod "java/lang/AbstractStringBuilder" "java/lang/AbstractStringBuilder" "ensureCapacityInternal" "(I)V") ∈ lw_all := lw_g (lw_at lw_m10 8 rfl) rfl
theorem q2264 : (Jvm.Cond.sameMethod "java/lang/AbstractStringBuilder" "java/lang/AbstractStringBuilder" "newCapacity" "(I)I") ∈ lw_all := lw_g (lw_at lw_m10 9 rfl) rfl
theorem q2265 : (Jvm.Cond.sameMethod "java/lang/AbstractStringBuilder" "java/lang/AbstractStringBuilder" "inflate" "()V") ∈ lw_all := lw_g (lw_at lw_m10 10 rfl) rfl
theorem q108 : (Jvm.Cond.initialized "java/lang/StringBuilder") ∈ lw_all := lw_g (lw_at lw_m1 13 rfl) rfl
theorem q296 : (Jvm.Cond.instantiable "java/lang/StringBuilder" (4 : Nat)) ∈ lw_all := lw_g (lw_at lw_m1 201 rfl) rfl
theorem q298 : (Jvm.Cond.instanceMethod ({ cls := "java/lang/StringBuilder", name := "<init>", desc := "(I)V" } : Jvm.MethodName)) ∈ lw_all := lw_g (lw_at lw_m1 203 rfl) rfl
theorem q299 : (Jvm.Cond.code ({ cls := "java/lang/StringBuilder", name := "<init>", desc := "(I)V" } : Jvm.MethodName) prog_34_method_2_code (2 : Nat) (Option.none : Option Jvm.ClassFile.FieldType)) ∈ lw_all := lw_g (lw_at lw_m1 204 rfl) rfl
theorem q300 : (Jvm.Cond.methodLink "java/lang/StringBuilder" (1 : Nat) ({ cls := "java/lang/AbstractStringBuilder", name := "<init>", desc := "(I)V" } : Jvm.MethodName)) ∈ lw_all := lw_g (lw_at lw_m1 205 rfl) rfl
theorem q317 : (Jvm.Cond.lays "java/lang/StringBuilder" "java/lang/AbstractStringBuilder" "value" "[B") ∈ lw_all := lw_g (lw_at lw_m1 222 rfl) rfl
theorem q319 : (Jvm.Cond.lays "java/lang/StringBuilder" "java/lang/AbstractStringBuilder" "coder" "B") ∈ lw_all := lw_g (lw_at lw_m1 224 rfl) rfl
theorem q321 : (Jvm.Cond.lays "java/lang/StringBuilder" "java/lang/AbstractStringBuilder" "maybeLatin1" "Z") ∈ lw_all := lw_g (lw_at lw_m1 226 rfl) rfl
theorem q323 : (Jvm.Cond.lays "java/lang/StringBuilder" "java/lang/AbstractStringBuilder" "count" "I") ∈ lw_all := lw_g (lw_at lw_m1 228 rfl) rfl
theorem q325 : (Jvm.Cond.superclass "java/lang/StringBuilder" "java/lang/AbstractStringBuilder") ∈ lw_all := lw_g (lw_at lw_m1 230 rfl) rfl
theorem q327 : (Jvm.Cond.instanceMethod ({ cls := "java/lang/StringBuilder", name := "length", desc := "()I" } : Jvm.MethodName)) ∈ lw_all := lw_g (lw_at lw_m1 232 rfl) rfl
theorem q328 : (Jvm.Cond.selects "java/lang/StringBuilder" ({ cls := "java/lang/StringBuilder", name := "length", desc := "()I" } : Jvm.MethodName) ({ cls := "java/lang/StringBuilder", name := "length", desc := "()I" } : Jvm.MethodName)) ∈ lw_all := lw_g (lw_at lw_m1 233 rfl) rfl
theorem q329 : (Jvm.Cond.code ({ cls := "java/lang/StringBuilder", name := "length", desc := "()I" } : Jvm.MethodName) prog_34_method_93_code (1 : Nat) (Option.some Jvm.ClassFile.FieldType.int)) ∈ lw_all := lw_g (lw_at lw_m1 234 rfl) rfl
theorem q330 : (Jvm.Cond.methodLink "java/lang/StringBuilder" (343 : Nat) ({ cls := "java/lang/AbstractStringBuilder", name := "length", desc := "()I" } : Jvm.MethodName)) ∈ lw_all := lw_g (lw_at lw_m1 235 rfl) rfl
theorem q334 : (Jvm.Cond.instanceMethod ({ cls := "java/lang/StringBuilder", name := "append", desc := "(C)Ljava/lang/StringBuilder;" } : Jvm.MethodName)) ∈ lw_all := lw_g (lw_at lw_m1 239 rfl) rfl
theorem q335 : (Jvm.Cond.selects "java/lang/StringBuilder" ({ cls := "java/lang/StringBuilder", name := "append", desc := "(C)Ljava/lang/StringBuilder;" } : Jvm.MethodName) ({ cls := "java/lang/StringBuilder", name := "append", desc := "(C)Ljava/lang/StringBuilder;" } : Jvm.MethodName)) ∈ lw_all := lw_g (lw_at lw_m2 0 rfl) rfl
theorem q336 : (Jvm.Cond.code ({ cls := "java/lang/StringBuilder", name := "append", desc := "(C)Ljava/lang/StringBuilder;" } : Jvm.MethodName) prog_34_method_14_code (2 : Nat) (Option.some (Jvm.ClassFile.FieldType.object "java/lang/StringBuilder"))) ∈ lw_all := lw_g (lw_at lw_m2 1 rfl) rfl
theorem q337 : (Jvm.Cond.methodLink "java/lang/StringBuilder" (50 : Nat) ({ cls := "java/lang/AbstractStringBuilder", name := "append", desc := "(C)Ljava/lang/AbstractStringBuilder;" } : Jvm.MethodName)) ∈ lw_all := lw_g (lw_at lw_m2 2 rfl) rfl
theorem q378 : (Jvm.Cond.selects "java/lang/StringBuilder" ({ cls := "java/lang/AbstractStringBuilder", name := "isLatin1", desc := "()Z" } : Jvm.MethodName) ({ cls := "java/lang/AbstractStringBuilder", name := "isLatin1", desc := "()Z" } : Jvm.MethodName)) ∈ lw_all := lw_g (lw_at lw_m2 43 rfl) rfl
theorem q429 : (Jvm.Cond.instanceMethod ({ cls := "java/lang/StringBuilder", name := "toString", desc := "()Ljava/lang/String;" } : Jvm.MethodName)) ∈ lw_all := lw_g (lw_at lw_m2 94 rfl) rfl
theorem q430 : (Jvm.Cond.selects "java/lang/StringBuilder" ({ cls := "java/lang/StringBuilder", name := "toString", desc := "()Ljava/lang/String;" } : Jvm.MethodName) ({ cls := "java/lang/StringBuilder", name := "toString", desc := "()Ljava/lang/String;" } : Jvm.MethodName)) ∈ lw_all := lw_g (lw_at lw_m2 95 rfl) rfl
theorem q431 : (Jvm.Cond.code ({ cls := "java/lang/StringBuilder", name := "toString", desc := "()Ljava/lang/String;" } : Jvm.MethodName) prog_34_method_42_code (1 : Nat) (Option.some (Jvm.ClassFile.FieldType.object "java/lang/String"))) ∈ lw_all := lw_g (lw_at lw_m2 96 rfl) rfl
theorem q432 : (Jvm.Cond.classLink "java/lang/StringBuilder" (18 : Nat) "java/lang/String") ∈ lw_all := lw_g (lw_at lw_m2 97 rfl) rfl
theorem q434 : (Jvm.Cond.methodLink "java/lang/StringBuilder" (137 : Nat) ({ cls := "java/lang/String", name := "<init>", desc := "(Ljava/lang/StringBuilder;)V" } : Jvm.MethodName)) ∈ lw_all := lw_g (lw_at lw_m2 99 rfl) rfl
theorem q444 : (Jvm.Cond.selects "java/lang/StringBuilder" ({ cls := "java/lang/AbstractStringBuilder", name := "getValue", desc := "()[B" } : Jvm.MethodName) ({ cls := "java/lang/AbstractStringBuilder", name := "getValue", desc := "()[B" } : Jvm.MethodName)) ∈ lw_all := lw_g (lw_at lw_m2 109 rfl) rfl
theorem q766 : (Jvm.Cond.selects "java/lang/StringBuilder" ({ cls := "java/lang/Object", name := "getClass", desc := "()Ljava/lang/Class;" } : Jvm.MethodName) ({ cls := "java/lang/Object", name := "getClass", desc := "()Ljava/lang/Class;" } : Jvm.MethodName)) ∈ lw_all := lw_g (lw_at lw_m3 191 rfl) rfl
theorem q2266 : (Jvm.Cond.selects "java/lang/StringBuilder" ({ cls := "java/lang/AbstractStringBuilder", name := "length", desc := "()I" } : Jvm.MethodName) ({ cls := "java/lang/StringBuilder", name := "length", desc := "()I" } : Jvm.MethodName)) ∈ lw_all := lw_g (lw_at lw_m10 11 rfl) rfl
theorem q2290 : (Jvm.Cond.castable "java/lang/StringBuilder" "java/lang/Object") ∈ lw_tbl := lw_at lw_m10 35 rfl
theorem in_J5 : ∀ w ∈ wsJ50, w ∈ lw_all := lw_in wsJ50 [317, 319, 321, 323] (by decide +kernel) (by decide +kernel)
theorem q109 : (Jvm.Cond.initialized "java/lang/String") ∈ lw_all := lw_g (lw_at lw_m1 14 rfl) rfl
theorem q305 : (Jvm.Cond.laysStatic "java/lang/String" "COMPACT_STRINGS" "Z") ∈ lw_tbl := lw_at lw_m1 210 rfl
theorem q315 : (Jvm.Cond.fieldLink "java/lang/String" (1048 : Nat) "java/lang/AbstractStringBuilder" "maybeLatin1" "Z") ∈ lw_all := lw_g (lw_at lw_m1 220 rfl) rfl
theorem q400 : (Jvm.Cond.static ({ cls := "java/lang/String", name := "checkBoundsOffCount", desc := "(III)I" } : Jvm.MethodName)) ∈ lw_all := lw_g (lw_at lw_m2 65 rfl) rfl
theorem q401 : (Jvm.Cond.code ({ cls := "java/lang/String", name := "checkBoundsOffCount", desc := "(III)I" } : Jvm.MethodName) prog_33_method_157_code (3 : Nat) (Option.some Jvm.ClassFile.FieldType.int)) ∈ lw_all := lw_g (lw_at lw_m2 66 rfl) rfl
theorem q402 : (Jvm.Cond.fieldLink "java/lang/String" (1053 : Nat) "jdk/internal/util/Preconditions" "SIOOBE_FORMATTER" "Ljava/util/function/BiFunction;") ∈ lw_all := lw_g (lw_at lw_m2 67 rfl) rfl
theorem q404 : (Jvm.Cond.methodLink "java/lang/String" (1065 : Nat) ({ cls := "jdk/internal/util/Preconditions", name := "checkFromIndexSize", desc := "(IIILjava/util/function/BiFunction;)I" } : Jvm.MethodName)) ∈ lw_all := lw_g (lw_at lw_m2 69 rfl) rfl
theorem q423 : (Jvm.Cond.static ({ cls := "java/lang/String", name := "checkIndex", desc := "(II)V" } : Jvm.MethodName)) ∈ lw_all := lw_g (lw_at lw_m2 88 rfl) rfl
theorem q424 : (Jvm.Cond.code ({ cls := "java/lang/String", name := "checkIndex", desc := "(II)V" } : Jvm.MethodName) prog_33_method_155_code (2 : Nat) (Option.none : Option Jvm.ClassFile.FieldType)) ∈ lw_all := lw_g (lw_at lw_m2 89 rfl) rfl
theorem q425 : (Jvm.Cond.methodLink "java/lang/String" (1059 : Nat) ({ cls := "jdk/internal/util/Preconditions", name := "checkIndex", desc := "(IILjava/util/function/BiFunction;)I" } : Jvm.MethodName)) ∈ lw_all := lw_g (lw_at lw_m2 90 rfl) rfl
theorem q433 : (Jvm.Cond.instantiable "java/lang/String" (4 : Nat)) ∈ lw_all := lw_g (lw_at lw_m2 98 rfl) rfl
theorem q435 : (Jvm.Cond.instanceMethod ({ cls := "java/lang/String", name := "<init>", desc := "(Ljava/lang/StringBuilder;)V" } : Jvm.MethodName)) ∈ lw_all := lw_g (lw_at lw_m2 100 rfl) rfl
theorem q436 : (Jvm.Cond.code ({ cls := "java/lang/String", name := "<init>", desc := "(Ljava/lang/StringBuilder;)V" } : Jvm.MethodName) prog_33_method_53_code (2 : Nat) (Option.none : Option Jvm.ClassFile.FieldType)) ∈ lw_all := lw_g (lw_at lw_m2 101 rfl) rfl
theorem q437 : (Jvm.Cond.methodLink "java/lang/String" (489 : Nat) ({ cls := "java/lang/String", name := "<init>", desc := "(Ljava/lang/AbstractStringBuilder;Ljava/lang/Void;)V" } : Jvm.MethodName)) ∈ lw_all := lw_g (lw_at lw_m2 102 rfl) rfl
theorem q438 : (Jvm.Cond.instanceMethod ({ cls := "java/lang/String", name := "<init>", desc := "(Ljava/lang/AbstractStringBuilder;Ljava/lang/Void;)V" } : Jvm.MethodName)) ∈ lw_all := lw_g (lw_at lw_m2 103 rfl) rfl
theorem q439 : (Jvm.Cond.code ({ cls := "java/lang/String", name := "<init>", desc := "(Ljava/lang/AbstractStringBuilder;Ljava/lang/Void;)V" } : Jvm.MethodName) prog_33_method_150_code (5 : Nat) (Option.none : Option Jvm.ClassFile.FieldType)) ∈ lw_all := lw_g (lw_at lw_m2 104 rfl) rfl
theorem q440 : (Jvm.Cond.methodLink "java/lang/String" (1 : Nat) ({ cls := "java/lang/Object", name := "<init>", desc := "()V" } : Jvm.MethodName)) ∈ lw_all := lw_g (lw_at lw_m2 105 rfl) rfl
theorem q441 : (Jvm.Cond.methodLink "java/lang/String" (552 : Nat) ({ cls := "java/lang/AbstractStringBuilder", name := "getValue", desc := "()[B" } : Jvm.MethodName)) ∈ lw_all := lw_g (lw_at lw_m2 106 rfl) rfl
theorem q446 : (Jvm.Cond.methodLink "java/lang/String" (549 : Nat) ({ cls := "java/lang/AbstractStringBuilder", name := "length", desc := "()I" } : Jvm.MethodName)) ∈ lw_all := lw_g (lw_at lw_m2 111 rfl) rfl
theorem q447 : (Jvm.Cond.methodLink "java/lang/String" (1047 : Nat) ({ cls := "java/lang/AbstractStringBuilder", name := "isLatin1", desc := "()Z" } : Jvm.MethodName)) ∈ lw_all := lw_g (lw_at lw_m2 112 rfl) rfl
theorem q448 : (Jvm.Cond.methodLink "java/lang/String" (54 : Nat) ({ cls := "java/util/Arrays", name := "copyOfRange", desc := "([BII)[B" } : Jvm.MethodName)) ∈ lw_all := lw_g (lw_at lw_m2 113 rfl) rfl
theorem q457 : (Jvm.Cond.fieldLink "java/lang/String" (38 : Nat) "java/lang/String" "COMPACT_STRINGS" "Z") ∈ lw_all := lw_g (lw_at lw_m2 122 rfl) rfl
theorem q458 : (Jvm.Cond.methodLink "java/lang/String" (1051 : Nat) ({ cls := "java/lang/StringUTF16", name := "compress", desc := "([BII)[B" } : Jvm.MethodName)) ∈ lw_all := lw_g (lw_at lw_m2 123 rfl) rfl
theorem q468 : (Jvm.Cond.methodLink "java/lang/String" (47 : Nat) ({ cls := "java/lang/StringUTF16", name := "coderFromArrayLen", desc := "([BI)B" } : Jvm.MethodName)) ∈ lw_all := lw_g (lw_at lw_m2 133 rfl) rfl
theorem q471 : (Jvm.Cond.fieldLink "java/lang/String" (9 : Nat) "java/lang/String" "value" "[B") ∈ lw_all := lw_g (lw_at lw_m2 136 rfl) rfl
theorem q472 : (Jvm.Cond.fieldLink "java/lang/String" (15 : Nat) "java/lang/String" "coder" "B") ∈ lw_all := lw_g (lw_at lw_m2 137 rfl) rfl
theorem q473 : (Jvm.Cond.laysFinal "java/lang/String" "java/lang/String" "value" "[B") ∈ lw_all := lw_g (lw_at lw_m2 138 rfl) rfl
theorem q474 : (Jvm.Cond.soleField "java/lang/String" "value") ∈ lw_all := lw_g (lw_at lw_m2 139 rfl) rfl
theorem q475 : (Jvm.Cond.laysFinal "java/lang/String" "java/lang/String" "coder" "B") ∈ lw_all := lw_g (lw_at lw_m2 140 rfl) rfl
theorem q476 : (Jvm.Cond.soleField "java/lang/String" "coder") ∈ lw_all := lw_g (lw_at lw_m2 141 rfl) rfl
theorem q477 : (Jvm.Cond.lays "java/lang/String" "java/lang/String" "hash" "I") ∈ lw_all := lw_g (lw_at lw_m2 142 rfl) rfl
theorem q478 : (Jvm.Cond.soleField "java/lang/String" "hash") ∈ lw_all := lw_g (lw_at lw_m2 143 rfl) rfl
theorem q479 : (Jvm.Cond.lays "java/lang/String" "java/lang/String" "hashIsZero" "Z") ∈ lw_all := lw_g (lw_at lw_m2 144 rfl) rfl
theorem q480 : (Jvm.Cond.soleField "java/lang/String" "hashIsZero") ∈ lw_all := lw_g (lw_at lw_m2 145 rfl) rfl
theorem q481 : (Jvm.Cond.superclass "java/lang/String" "java/lang/Object") ∈ lw_all := lw_g (lw_at lw_m2 146 rfl) rfl
theorem q591 : (Jvm.Cond.instanceMethod ({ cls := "java/lang/String", name := "equals", desc := "(Ljava/lang/Object;)Z" } : Jvm.MethodName)) ∈ lw_all := lw_g (lw_at lw_m3 16 rfl) rfl
theorem q592 : (Jvm.Cond.selects "java/lang/String" ({ cls := "java/lang/String", name := "equals", desc := "(Ljava/lang/Object;)Z" } : Jvm.MethodName) ({ cls := "java/lang/String", name := "equals", desc := "(Ljava/lang/Object;)Z" } : Jvm.MethodName)) ∈ lw_all := lw_g (lw_at lw_m3 17 rfl) rfl
theorem q593 : (Jvm.Cond.code ({ cls := "java/lang/String", name := "equals", desc := "(Ljava/lang/Object;)Z" } : Jvm.MethodName) prog_33_method_66_code (3 : Nat) (Option.some Jvm.ClassFile.FieldType.boolean)) ∈ lw_all := lw_g (lw_at lw_m3 18 rfl) rfl
theorem q594 : (Jvm.Cond.classLink "java/lang/String" (10 : Nat) "java/lang/String") ∈ lw_all := lw_g (lw_at lw_m3 19 rfl) rfl
theorem q595 : (Jvm.Cond.methodLink "java/lang/String" (541 : Nat) ({ cls := "java/lang/StringLatin1", name := "equals", desc := "([B[B)Z" } : Jvm.MethodName)) ∈ lw_all := lw_g (lw_at lw_m3 20 rfl) rfl
theorem q765 : (Jvm.Cond.selects "java/lang/String" ({ cls := "java/lang/Object", name := "getClass", desc := "()Ljava/lang/Class;" } : Jvm.MethodName) ({ cls := "java/lang/Object", name := "getClass", desc := "()Ljava/lang/Class;" } : Jvm.MethodName)) ∈ lw_all := lw_g (lw_at lw_m3 190 rfl) rfl
theorem q2282 : (Jvm.Cond.castable "java/lang/String" "java/lang/Object") ∈ lw_tbl := lw_at lw_m10 27 rfl
theorem in_J6 : ∀ w ∈ wsJ60, w ∈ lw_all := lw_in wsJ60 [473, 475, 477, 479] (by decide +kernel) (by decide +kernel)
theorem q110 : (Jvm.Cond.initialized "java/lang/StringUTF16") ∈ lw_all := lw_g (lw_at lw_m1 15 rfl) rfl
theorem q307 : (Jvm.Cond.static ({ cls := "java/lang/StringUTF16", name := "newBytesFor", desc := "(I)[B" } : Jvm.MethodName)) ∈ lw_all := lw_g (lw_at lw_m1 212 rfl) rfl
theorem q308 : (Jvm.Cond.code ({ cls := "java/lang/StringUTF16", name := "newBytesFor", desc := "(I)[B" } : Jvm.MethodName) prog_36_method_2_code (1 : Nat) (Option.some (Jvm.ClassFile.FieldType.array Jvm.ClassFile.FieldType.byte))) ∈ lw_all := lw_g (lw_at lw_m1 213 rfl) rfl
theorem q309 : (Jvm.Cond.methodLink "java/lang/StringUTF16" (11 : Nat) ({ cls := "java/lang/StringUTF16", name := "newBytesLength", desc := "(I)I" } : Jvm.MethodName)) ∈ lw_all := lw_g (lw_at lw_m1 214 rfl) rfl
theorem q310 : (Jvm.Cond.static ({ cls := "java/lang/StringUTF16", name := "newBytesLength", desc := "(I)I" } : Jvm.MethodName)) ∈ lw_all := lw_g (lw_at lw_m1 215 rfl) rfl
theorem q311 : (Jvm.Cond.code ({ cls := "java/lang/StringUTF16", name := "newBytesLength", desc := "(I)I" } : Jvm.MethodName) prog_36_method_3_code (1 : Nat) (Option.some Jvm.ClassFile.FieldType.int)) ∈ lw_all := lw_g (lw_at lw_m1 216 rfl) rfl
theorem q312 : (Jvm.Cond.constant "java/lang/StringUTF16" (20 : Nat) (1073741823 : Int32)) ∈ lw_all := lw_g (lw_at lw_m1 217 rfl) rfl
theorem q391 : (Jvm.Cond.static ({ cls := "java/lang/StringUTF16", name := "inflate", desc := "([BI[BII)V" } : Jvm.MethodName)) ∈ lw_all := lw_g (lw_at lw_m2 56 rfl) rfl
theorem q392 : (Jvm.Cond.code ({ cls := "java/lang/StringUTF16", name := "inflate", desc := "([BI[BII)V" } : Jvm.MethodName) prog_36_method_86_code (6 : Nat) (Option.none : Option Jvm.ClassFile.FieldType)) ∈ lw_all := lw_g (lw_at lw_m2 57 rfl) rfl
theorem q393 : (Jvm.Cond.methodLink "java/lang/StringUTF16" (173 : Nat) ({ cls := "java/lang/StringUTF16", name := "checkBoundsOffCount", desc := "(II[B)V" } : Jvm.MethodName)) ∈ lw_all := lw_g (lw_at lw_m2 58 rfl) rfl
theorem q394 : (Jvm.Cond.static ({ cls := "java/lang/StringUTF16", name := "checkBoundsOffCount", desc := "(II[B)V" } : Jvm.MethodName)) ∈ lw_all := lw_g (lw_at lw_m2 59 rfl) rfl
theorem q395 : (Jvm.Cond.code ({ cls := "java/lang/StringUTF16", name := "checkBoundsOffCount", desc := "(II[B)V" } : Jvm.MethodName) prog_36_method_94_code (3 : Nat) (Option.none : Option Jvm.ClassFile.FieldType)) ∈ lw_all := lw_g (lw_at lw_m2 60 rfl) rfl
theorem q396 : (Jvm.Cond.methodLink "java/lang/StringUTF16" (48 : Nat) ({ cls := "java/lang/StringUTF16", name := "length", desc := "([B)I" } : Jvm.MethodName)) ∈ lw_all := lw_g (lw_at lw_m2 61 rfl) rfl
theorem q397 : (Jvm.Cond.static ({ cls := "java/lang/StringUTF16", name := "length", desc := "([B)I" } : Jvm.MethodName)) ∈ lw_all := lw_g (lw_at lw_m2 62 rfl) rfl
theorem q398 : (Jvm.Cond.code ({ cls := "java/lang/StringUTF16", name := "length", desc := "([B)I" } : Jvm.MethodName) prog_36_method_6_code (1 : Nat) (Option.some Jvm.ClassFile.FieldType.int)) ∈ lw_all := lw_g (lw_at lw_m2 63 rfl) rfl
theorem q399 : (Jvm.Cond.methodLink "java/lang/StringUTF16" (419 : Nat) ({ cls := "java/lang/String", name := "checkBoundsOffCount", desc := "(III)I" } : Jvm.MethodName)) ∈ lw_all := lw_g (lw_at lw_m2 64 rfl) rfl
theorem q407 : (Jvm.Cond.methodLink "java/lang/StringUTF16" (111 : Nat) ({ cls := "java/lang/StringUTF16", name := "putChar", desc := "([BII)V" } : Jvm.MethodName)) ∈ lw_all := lw_g (lw_at lw_m2 72 rfl) rfl
theorem q408 : (Jvm.Cond.static ({ cls := "java/lang/StringUTF16", name := "putChar", desc := "([BII)V" } : Jvm.MethodName)) ∈ lw_all := lw_g (lw_at lw_m2 73 rfl) rfl
theorem q409 : (Jvm.Cond.code ({ cls := "java/lang/StringUTF16", name := "putChar", desc := "([BII)V" } : Jvm.MethodName) prog_36_method_4_code (3 : Nat) (Option.none : Option Jvm.ClassFile.FieldType)) ∈ lw_all := lw_g (lw_at lw_m2 74 rfl) rfl
theorem q410 : (Jvm.Cond.fieldLink "java/lang/StringUTF16" (44 : Nat) "java/lang/StringUTF16" "$assertionsDisabled" "Z") ∈ lw_all := lw_g (lw_at lw_m2 75 rfl) rfl
theorem q411 : (Jvm.Cond.laysStatic "java/lang/StringUTF16" "$assertionsDisabled" "Z") ∈ lw_tbl := lw_at lw_m2 76 rfl
theorem q412 : (Jvm.Cond.fieldLink "java/lang/StringUTF16" (59 : Nat) "java/lang/StringUTF16" "HI_BYTE_SHIFT" "I") ∈ lw_all := lw_g (lw_at lw_m2 77 rfl) rfl
theorem q413 : (Jvm.Cond.laysStatic "java/lang/StringUTF16" "HI_BYTE_SHIFT" "I") ∈ lw_tbl := lw_at lw_m2 78 rfl
theorem q414 : (Jvm.Cond.fieldLink "java/lang/StringUTF16" (63 : Nat) "java/lang/StringUTF16" "LO_BYTE_SHIFT" "I") ∈ lw_all := lw_g (lw_at lw_m2 79 rfl) rfl
theorem q415 : (Jvm.Cond.laysStatic "java/lang/StringUTF16" "LO_BYTE_SHIFT" "I") ∈ lw_tbl := lw_at lw_m2 80 rfl
theorem q417 : (Jvm.Cond.static ({ cls := "java/lang/StringUTF16", name := "putCharSB", desc := "([BII)V" } : Jvm.MethodName)) ∈ lw_all := lw_g (lw_at lw_m2 82 rfl) rfl
theorem q418 : (Jvm.Cond.code ({ cls := "java/lang/StringUTF16", name := "putCharSB", desc := "([BII)V" } : Jvm.MethodName) prog_36_method_71_code (3 : Nat) (Option.none : Option Jvm.ClassFile.FieldType)) ∈ lw_all := lw_g (lw_at lw_m2 83 rfl) rfl
theorem q419 : (Jvm.Cond.methodLink "java/lang/StringUTF16" (67 : Nat) ({ cls := "java/lang/StringUTF16", name := "checkIndex", desc := "(I[B)V" } : Jvm.MethodName)) ∈ lw_all := lw_g (lw_at lw_m2 84 rfl) rfl
theorem q420 : (Jvm.Cond.static ({ cls := "java/lang/StringUTF16", name := "checkIndex", desc := "(I[B)V" } : Jvm.MethodName)) ∈ lw_all := lw_g (lw_at lw_m2 85 rfl) rfl
theorem q421 : (Jvm.Cond.code ({ cls := "java/lang/StringUTF16", name := "checkIndex", desc := "(I[B)V" } : Jvm.MethodName) prog_36_method_91_code (2 : Nat) (Option.none : Option Jvm.ClassFile.FieldType)) ∈ lw_all := lw_g (lw_at lw_m2 86 rfl) rfl
theorem q422 : (Jvm.Cond.methodLink "java/lang/StringUTF16" (414 : Nat) ({ cls := "java/lang/String", name := "checkIndex", desc := "(II)V" } : Jvm.MethodName)) ∈ lw_all := lw_g (lw_at lw_m2 87 rfl) rfl
theorem q459 : (Jvm.Cond.static ({ cls := "java/lang/StringUTF16", name := "compress", desc := "([BII)[B" } : Jvm.MethodName)) ∈ lw_all := lw_g (lw_at lw_m2 124 rfl) rfl
theorem q460 : (Jvm.Cond.code ({ cls := "java/lang/StringUTF16", name := "compress", desc := "([BII)[B" } : Jvm.MethodName) prog_36_method_17_code (6 : Nat) (Option.some (Jvm.ClassFile.FieldType.array Jvm.ClassFile.FieldType.byte))) ∈ lw_all := lw_g (lw_at lw_m2 125 rfl) rfl
theorem q461 : (Jvm.Cond.methodLink "java/lang/StringUTF16" (123 : Nat) ({ cls := "java/lang/StringUTF16", name := "compress", desc := "([BI[BII)I" } : Jvm.MethodName)) ∈ lw_all := lw_g (lw_at lw_m2 126 rfl) rfl
theorem q462 : (Jvm.Cond.static ({ cls := "java/lang/StringUTF16", name := "compress", desc := "([BI[BII)I" } : Jvm.MethodName)) ∈ lw_all := lw_g (lw_at lw_m2 127 rfl) rfl
theorem q463 : (Jvm.Cond.code ({ cls := "java/lang/StringUTF16", name := "compress", desc := "([BI[BII)I" } : Jvm.MethodName) prog_36_method_22_code (7 : Nat) (Option.some Jvm.ClassFile.FieldType.int)) ∈ lw_all := lw_g (lw_at lw_m2 128 rfl) rfl
theorem q464 : (Jvm.Cond.methodLink "java/lang/StringUTF16" (71 : Nat) ({ cls := "java/lang/StringUTF16", name := "getChar", desc := "([BI)C" } : Jvm.MethodName)) ∈ lw_all := lw_g (lw_at lw_m2 129 rfl) rfl
theorem q465 : (Jvm.Cond.static ({ cls := "java/lang/StringUTF16", name := "getChar", desc := "([BI)C" } : Jvm.MethodName)) ∈ lw_all := lw_g (lw_at lw_m2 130 rfl) rfl
theorem q466 : (Jvm.Cond.code ({ cls := "java/lang/StringUTF16", name := "getChar", desc := "([BI)C" } : Jvm.MethodName) prog_36_method_5_code (2 : Nat) (Option.some Jvm.ClassFile.FieldType.char)) ∈ lw_all := lw_g (lw_at lw_m2 131 rfl) rfl
theorem q467 : (Jvm.Cond.methodLink "java/lang/StringUTF16" (126 : Nat) ({ cls := "java/util/Arrays", name := "copyOfRange", desc := "([BII)[B" } : Jvm.MethodName)) ∈ lw_all := lw_g (lw_at lw_m2 132 rfl) rfl
theorem q469 : (Jvm.Cond.static ({ cls := "java/lang/StringUTF16", name := "coderFromArrayLen", desc := "([BI)B" } : Jvm.MethodName)) ∈ lw_all := lw_g (lw_at lw_m2 134 rfl) rfl
theorem q470 : (Jvm.Cond.code ({ cls := "java/lang/StringUTF16", name := "coderFromArrayLen", desc := "([BI)B" } : Jvm.MethodName) prog_36_method_15_code (2 : Nat) (Option.some Jvm.ClassFile.FieldType.byte)) ∈ lw_all := lw_g (lw_at lw_m2 135 rfl) rfl
theorem q111 : (Jvm.Cond.initialized "jdk/internal/util/ArraysSupport") ∈ lw_all := lw_g (lw_at lw_m1 16 rfl) rfl
theorem q349 : (Jvm.Cond.static ({ cls := "jdk/internal/util/ArraysSupport", name := "newLength", desc := "(III)I" } : Jvm.MethodName)) ∈ lw_all := lw_g (lw_at lw_m2 14 rfl) rfl
theorem q350 : (Jvm.Cond.code ({ cls := "jdk/internal/util/ArraysSupport", name := "newLength", desc := "(III)I" } : Jvm.MethodName) prog_51_method_27_code (4 : Nat) (Option.some Jvm.ClassFile.FieldType.int)) ∈ lw_all := lw_g (lw_at lw_m2 15 rfl) rfl
theorem q351 : (Jvm.Cond.methodLink "jdk/internal/util/ArraysSupport" (194 : Nat) ({ cls := "java/lang/Math", name := "max", desc := "(II)I" } : Jvm.MethodName)) ∈ lw_all := lw_g (lw_at lw_m2 16 rfl) rfl
theorem q354 : (Jvm.Cond.constant "jdk/internal/util/ArraysSupport" (200 : Nat) (2147483639 : Int32)) ∈ lw_all := lw_g (lw_at lw_m2 19 rfl) rfl
theorem q355 : (Jvm.Cond.methodLink "jdk/internal/util/ArraysSupport" (201 : Nat) ({ cls := "jdk/internal/util/ArraysSupport", name := "hugeLength", desc := "(II)I" } : Jvm.MethodName)) ∈ lw_all := lw_g (lw_at lw_m2 20 rfl) rfl
theorem q356 : (Jvm.Cond.static ({ cls := "jdk/internal/util/ArraysSupport", name := "hugeLength", desc := "(II)I" } : Jvm.MethodName)) ∈ lw_all := lw_g (lw_at lw_m2 21 rfl) rfl
theorem q357 : (Jvm.Cond.code ({ cls := "jdk/internal/util/ArraysSupport", name := "hugeLength", desc := "(II)I" } : Jvm.MethodName) prog_51_method_28_code (3 : Nat) (Option.some Jvm.ClassFile.FieldType.int)) ∈ lw_all := lw_g (lw_at lw_m2 22 rfl) rfl
theorem q112 : (Jvm.Cond.initialized "java/lang/Math") ∈ lw_all := lw_g (lw_at lw_m1 17 rfl) rfl
theorem q352 : (Jvm.Cond.static ({ cls := "java/lang/Math", name := "max", desc := "(II)I" } : Jvm.MethodName)) ∈ lw_all := lw_g (lw_at lw_m2 17 rfl) rfl
theorem q353 : (Jvm.Cond.code ({ cls := "java/lang/Math", name := "max", desc := "(II)I" } : Jvm.MethodName) prog_31_method_65_code (2 : Nat) (Option.some Jvm.ClassFile.FieldType.int)) ∈ lw_all := lw_g (lw_at lw_m2 18 rfl) rfl
theorem q370 : (Jvm.Cond.static ({ cls := "java/lang/Math", name := "min", desc := "(II)I" } : Jvm.MethodName)) ∈ lw_all := lw_g (lw_at lw_m2 35 rfl) rfl
theorem q371 : (Jvm.Cond.code ({ cls := "java/lang/Math", name := "min", desc := "(II)I" } : Jvm.MethodName) prog_31_method_69_code (2 : Nat) (Option.some Jvm.ClassFile.FieldType.int)) ∈ lw_all := lw_g (lw_at lw_m2 36 rfl) rfl
theorem q1458 : (Jvm.Cond.static ({ cls := "java/lang/Math", name := "abs", desc := "(I)I" } : Jvm.MethodName)) ∈ lw_all := lw_g (lw_at lw_m6 163 rfl) rfl
theorem q1459 : (Jvm.Cond.code ({ cls := "java/lang/Math", name := "abs", desc := "(I)I" } : Jvm.MethodName) prog_31_method_59_code (1 : Nat) (Option.some Jvm.ClassFile.FieldType.int)) ∈ lw_all := lw_g (lw_at lw_m6 164 rfl) rfl
theorem q96 : (Jvm.Cond.initialized "TouchShelf") ∈ lw_all := lw_g (lw_at lw_m1 1 rfl) rfl
theorem q136 : (Jvm.Cond.instantiable "TouchShelf" (4 : Nat)) ∈ lw_all := lw_g (lw_at lw_m1 41 rfl) rfl
theorem q138 : (Jvm.Cond.instanceMethod ({ cls := "TouchShelf", name := "<init>", desc := "()V" } : Jvm.MethodName)) ∈ lw_all := lw_g (lw_at lw_m1 43 rfl) rfl
theorem q139 : (Jvm.Cond.code ({ cls := "TouchShelf", name := "<init>", desc := "()V" } : Jvm.MethodName) prog_1_method_5_code (1 : Nat) (Option.none : Option Jvm.ClassFile.FieldType)) ∈ lw_all := lw_g (lw_at lw_m1 44 rfl) rfl
theorem q140 : (Jvm.Cond.methodLink "TouchShelf" (19 : Nat) ({ cls := "java/lang/Object", name := "<init>", desc := "()V" } : Jvm.MethodName)) ∈ lw_all := lw_g (lw_at lw_m1 45 rfl) rfl
theorem q143 : (Jvm.Cond.classLink "TouchShelf" (25 : Nat) "TouchShelf$State") ∈ lw_all := lw_g (lw_at lw_m1 48 rfl) rfl
theorem q145 : (Jvm.Cond.methodLinkNest "TouchShelf" (27 : Nat) ({ cls := "TouchShelf$State", name := "<init>", desc := "()V" } : Jvm.MethodName) "TouchShelf") ∈ lw_tbl := lw_at lw_m1 50 rfl
theorem q179 : (Jvm.Cond.fieldLinkNest "TouchShelf" (88 : Nat) "TouchShelf$State" "tape" "[B" "TouchShelf") ∈ lw_tbl := lw_at lw_m1 84 rfl
theorem q181 : (Jvm.Cond.fieldLinkNest "TouchShelf" (84 : Nat) "TouchShelf$State" "taped" "I" "TouchShelf") ∈ lw_tbl := lw_at lw_m1 86 rfl
theorem q183 : (Jvm.Cond.fieldLinkNest "TouchShelf" (131 : Nat) "TouchShelf$State" "faultKind" "I" "TouchShelf") ∈ lw_tbl := lw_at lw_m1 88 rfl
theorem q185 : (Jvm.Cond.fieldLinkNest "TouchShelf" (134 : Nat) "TouchShelf$State" "faultPlace" "I" "TouchShelf") ∈ lw_tbl := lw_at lw_m1 90 rfl
theorem q187 : (Jvm.Cond.fieldLinkNest "TouchShelf" (50 : Nat) "TouchShelf$State" "libraries" "Ljava/util/ArrayList;" "TouchShelf") ∈ lw_tbl := lw_at lw_m1 92 rfl
theorem q189 : (Jvm.Cond.fieldLinkNest "TouchShelf" (113 : Nat) "TouchShelf$State" "daybooks" "Ljava/util/ArrayList;" "TouchShelf") ∈ lw_tbl := lw_at lw_m1 94 rfl
theorem q191 : (Jvm.Cond.fieldLinkNest "TouchShelf" (122 : Nat) "TouchShelf$State" "rounds" "Ljava/util/ArrayList;" "TouchShelf") ∈ lw_tbl := lw_at lw_m1 96 rfl
theorem q208 : (Jvm.Cond.classLink "TouchShelf" (36 : Nat) "TouchShelf$Sets") ∈ lw_all := lw_g (lw_at lw_m1 113 rfl) rfl
theorem q210 : (Jvm.Cond.methodLinkNest "TouchShelf" (38 : Nat) ({ cls := "TouchShelf$Sets", name := "<init>", desc := "()V" } : Jvm.MethodName) "TouchShelf") ∈ lw_tbl := lw_at lw_m1 115 rfl
theorem q225 : (Jvm.Cond.fieldLink "TouchShelf" (28 : Nat) "TouchShelf" "now" "LTouchShelf$State;") ∈ lw_all := lw_g (lw_at lw_m1 130 rfl) rfl
theorem q226 : (Jvm.Cond.fieldLink "TouchShelf" (32 : Nat) "TouchShelf" "kept" "[LTouchShelf$State;") ∈ lw_all := lw_g (lw_at lw_m1 131 rfl) rfl
theorem q227 : (Jvm.Cond.fieldLink "TouchShelf" (39 : Nat) "TouchShelf" "sets" "LTouchShelf$Sets;") ∈ lw_all := lw_g (lw_at lw_m1 132 rfl) rfl
theorem q228 : (Jvm.Cond.fieldLink "TouchShelf" (193 : Nat) "TouchShelf" "slides" "LTouchShelf$Slides;") ∈ lw_all := lw_g (lw_at lw_m1 133 rfl) rfl
theorem q229 : (Jvm.Cond.laysFinal "TouchShelf" "TouchShelf" "now" "LTouchShelf$State;") ∈ lw_all := lw_g (lw_at lw_m1 134 rfl) rfl
theorem q230 : (Jvm.Cond.soleField "TouchShelf" "now") ∈ lw_all := lw_g (lw_at lw_m1 135 rfl) rfl
theorem q231 : (Jvm.Cond.laysFinal "TouchShelf" "TouchShelf" "kept" "[LTouchShelf$State;") ∈ lw_all := lw_g (lw_at lw_m1 136 rfl) rfl
theorem q232 : (Jvm.Cond.soleField "TouchShelf" "kept") ∈ lw_all := lw_g (lw_at lw_m1 137 rfl) rfl
theorem q233 : (Jvm.Cond.laysFinal "TouchShelf" "TouchShelf" "sets" "LTouchShelf$Sets;") ∈ lw_all := lw_g (lw_at lw_m1 138 rfl) rfl
theorem q234 : (Jvm.Cond.soleField "TouchShelf" "sets") ∈ lw_all := lw_g (lw_at lw_m1 139 rfl) rfl
theorem q235 : (Jvm.Cond.lays "TouchShelf" "TouchShelf" "slides" "LTouchShelf$Slides;") ∈ lw_all := lw_g (lw_at lw_m1 140 rfl) rfl
theorem q236 : (Jvm.Cond.soleField "TouchShelf" "slides") ∈ lw_all := lw_g (lw_at lw_m1 141 rfl) rfl
theorem q237 : (Jvm.Cond.superclass "TouchShelf" "java/lang/Object") ∈ lw_all := lw_g (lw_at lw_m1 142 rfl) rfl
theorem q239 : (Jvm.Cond.instanceMethod ({ cls := "TouchShelf", name := "feed", desc := "(IIIII)I" } : Jvm.MethodName)) ∈ lw_all := lw_g (lw_at lw_m1 144 rfl) rfl
theorem q240 : (Jvm.Cond.selects "TouchShelf" ({ cls := "TouchShelf", name := "feed", desc := "(IIIII)I" } : Jvm.MethodName) ({ cls := "TouchShelf", name := "feed", desc := "(IIIII)I" } : Jvm.MethodName)) ∈ lw_all := lw_g (lw_at lw_m1 145 rfl) rfl
theorem q241 : (Jvm.Cond.code ({ cls := "TouchShelf", name := "feed", desc := "(IIIII)I" } : Jvm.MethodName) prog_1_method_11_code (8 : Nat) (Option.some Jvm.ClassFile.FieldType.int)) ∈ lw_all := lw_g (lw_at lw_m1 146 rfl) rfl
theorem q243 : (Jvm.Cond.instanceMethod ({ cls := "TouchShelf", name := "end", desc := "(I)I" } : Jvm.MethodName)) ∈ lw_all := lw_g (lw_at lw_m1 148 rfl) rfl
theorem q244 : (Jvm.Cond.selects "TouchShelf" ({ cls := "TouchShelf", name := "end", desc := "(I)I" } : Jvm.MethodName) ({ cls := "TouchShelf", name := "end", desc := "(I)I" } : Jvm.MethodName)) ∈ lw_all := lw_g (lw_at lw_m1 149 rfl) rfl
theorem q245 : (Jvm.Cond.code ({ cls := "TouchShelf", name := "end", desc := "(I)I" } : Jvm.MethodName) prog_1_method_12_code (2 : Nat) (Option.some Jvm.ClassFile.FieldType.int)) ∈ lw_all := lw_g (lw_at lw_m1 150 rfl) rfl
theorem q247 : (Jvm.Cond.instanceMethod ({ cls := "TouchShelf", name := "text", desc := "(II)I" } : Jvm.MethodName)) ∈ lw_all := lw_g (lw_at lw_m1 152 rfl) rfl
theorem q248 : (Jvm.Cond.selects "TouchShelf" ({ cls := "TouchShelf", name := "text", desc := "(II)I" } : Jvm.MethodName) ({ cls := "TouchShelf", name := "text", desc := "(II)I" } : Jvm.MethodName)) ∈ lw_all := lw_g (lw_at lw_m1 153 rfl) rfl
theorem q249 : (Jvm.Cond.codeWith ({ cls := "TouchShelf", name := "text", desc := "(II)I" } : Jvm.MethodName) prog_1_method_15_code (5 : Nat) (Option.some Jvm.ClassFile.FieldType.int) [((73 : Nat), (80 : Nat), (81 : Nat), (141 : Nat))]) ∈ lw_all := lw_g (lw_at lw_m1 154 rfl) rfl
theorem q250 : (Jvm.Cond.classLink "TouchShelf" (141 : Nat) "TouchShelf$Fault") ∈ lw_all := lw_g (lw_at lw_m1 155 rfl) rfl
theorem q251 : (Jvm.Cond.methodLink "TouchShelf" (46 : Nat) ({ cls := "TouchShelf", name := "isIn", desc := "(III)Z" } : Jvm.MethodName)) ∈ lw_all := lw_g (lw_at lw_m1 156 rfl) rfl
theorem q252 : (Jvm.Cond.static ({ cls := "TouchShelf", name := "isIn", desc := "(III)Z" } : Jvm.MethodName)) ∈ lw_all := lw_g (lw_at lw_m1 157 rfl) rfl
theorem q253 : (Jvm.Cond.code ({ cls := "TouchShelf", name := "isIn", desc := "(III)Z" } : Jvm.MethodName) prog_1_method_1_code (3 : Nat) (Option.some Jvm.ClassFile.FieldType.boolean)) ∈ lw_all := lw_g (lw_at lw_m1 158 rfl) rfl
theorem q254 : (Jvm.Cond.methodLink "TouchShelf" (43 : Nat) ({ cls := "TouchShelf$State", name := "many", desc := "(I)I" } : Jvm.MethodName)) ∈ lw_all := lw_g (lw_at lw_m1 159 rfl) rfl
theorem q262 : (Jvm.Cond.methodLink "TouchShelf" (62 : Nat) ({ cls := "TouchShelf", name := "is", desc := "(II)Z" } : Jvm.MethodName)) ∈ lw_all := lw_g (lw_at lw_m1 167 rfl) rfl
theorem q263 : (Jvm.Cond.privateMethod ({ cls := "TouchShelf", name := "is", desc := "(II)Z" } : Jvm.MethodName)) ∈ lw_tbl := lw_at lw_m1 168 rfl
theorem q264 : (Jvm.Cond.instanceMethod ({ cls := "TouchShelf", name := "is", desc := "(II)Z" } : Jvm.MethodName)) ∈ lw_all := lw_g (lw_at lw_m1 169 rfl) rfl
theorem q265 : (Jvm.Cond.code ({ cls := "TouchShelf", name := "is", desc := "(II)Z" } : Jvm.MethodName) prog_1_method_6_code (3 : Nat) (Option.some Jvm.ClassFile.FieldType.boolean)) ∈ lw_all := lw_g (lw_at lw_m1 170 rfl) rfl
theorem q266 : (Jvm.Cond.methodLink "TouchShelf" (137 : Nat) ({ cls := "TouchShelf", name := "reads", desc := "(III)I" } : Jvm.MethodName)) ∈ lw_all := lw_g (lw_at lw_m1 171 rfl) rfl
theorem q267 : (Jvm.Cond.privateMethod ({ cls := "TouchShelf", name := "reads", desc := "(III)I" } : Jvm.MethodName)) ∈ lw_tbl := lw_at lw_m1 172 rfl
theorem q268 : (Jvm.Cond.instanceMethod ({ cls := "TouchShelf", name := "reads", desc := "(III)I" } : Jvm.MethodName)) ∈ lw_all := lw_g (lw_at lw_m1 173 rfl) rfl
theorem q269 : (Jvm.Cond.code ({ cls := "TouchShelf", name := "reads", desc := "(III)I" } : Jvm.MethodName) prog_1_method_14_code (4 : Nat) (Option.some Jvm.ClassFile.FieldType.int)) ∈ lw_all := lw_g (lw_at lw_m1 174 rfl) rfl
theorem q270 : (Jvm.Cond.classLink "TouchShelf" (100 : Nat) "TouchShelf$LibraryReader") ∈ lw_all := lw_g (lw_at lw_m1 175 rfl) rfl
theorem q272 : (Jvm.Cond.methodLink "TouchShelf" (102 : Nat) ({ cls := "TouchShelf$LibraryReader", name := "<init>", desc := "([BI)V" } : Jvm.MethodName)) ∈ lw_all := lw_g (lw_at lw_m1 177 rfl) rfl
theorem q505 : (Jvm.Cond.fieldLinkNest "TouchShelf" (180 : Nat) "TouchShelf$Library" "bits" "I" "TouchShelf") ∈ lw_tbl := lw_at lw_m2 170 rfl
theorem q508 : (Jvm.Cond.fieldLinkNest "TouchShelf" (183 : Nat) "TouchShelf$Library" "wear" "I" "TouchShelf") ∈ lw_tbl := lw_at lw_m2 173 rfl
theorem q511 : (Jvm.Cond.fieldLinkNest "TouchShelf" (186 : Nat) "TouchShelf$Library" "rate" "I" "TouchShelf") ∈ lw_tbl := lw_at lw_m2 176 rfl
theorem q515 : (Jvm.Cond.fieldLinkNest "TouchShelf" (70 : Nat) "TouchShelf$Library" "shelves" "Ljava/util/ArrayList;" "TouchShelf") ∈ lw_tbl := lw_at lw_m2 180 rfl
theorem q553 : (Jvm.Cond.methodLink "TouchShelf" (105 : Nat) ({ cls := "TouchShelf$LibraryReader", name := "read", desc := "()LTouchShelf$Library;" } : Jvm.MethodName)) ∈ lw_all := lw_g (lw_at lw_m2 218 rfl) rfl
theorem q650 : (Jvm.Cond.fieldLinkNest "TouchShelf" (143 : Nat) "TouchShelf$Fault" "kind" "I" "TouchShelf") ∈ lw_tbl := lw_at lw_m3 75 rfl
theorem q653 : (Jvm.Cond.fieldLinkNest "TouchShelf" (146 : Nat) "TouchShelf$Fault" "place" "I" "TouchShelf") ∈ lw_tbl := lw_at lw_m3 78 rfl
theorem q678 : (Jvm.Cond.laysStatic "TouchShelf" "DOINGS" "[LTouchShelf$Doing;") ∈ lw_tbl := lw_at lw_m3 103 rfl
theorem q747 : (Jvm.Cond.selects "TouchShelf" ({ cls := "java/lang/Object", name := "getClass", desc := "()Ljava/lang/Class;" } : Jvm.MethodName) ({ cls := "java/lang/Object", name := "getClass", desc := "()Ljava/lang/Class;" } : Jvm.MethodName)) ∈ lw_all := lw_g (lw_at lw_m3 172 rfl) rfl
theorem q831 : (Jvm.Cond.fieldLinkNest "TouchShelf" (157 : Nat) "TouchShelf$Shelf" "mark" "[I" "TouchShelf") ∈ lw_tbl := lw_at lw_m4 16 rfl
theorem q834 : (Jvm.Cond.fieldLinkNest "TouchShelf" (207 : Nat) "TouchShelf$Shelf" "weight" "I" "TouchShelf") ∈ lw_tbl := lw_at lw_m4 19 rfl
theorem q945 : (Jvm.Cond.methodLink "TouchShelf" (109 : Nat) ({ cls := "TouchShelf", name := "puts", desc := "(Ljava/util/ArrayList;ILjava/lang/Object;)I" } : Jvm.MethodName)) ∈ lw_all := lw_g (lw_at lw_m4 130 rfl) rfl
theorem q946 : (Jvm.Cond.static ({ cls := "TouchShelf", name := "puts", desc := "(Ljava/util/ArrayList;ILjava/lang/Object;)I" } : Jvm.MethodName)) ∈ lw_all := lw_g (lw_at lw_m4 131 rfl) rfl
theorem q947 : (Jvm.Cond.code ({ cls := "TouchShelf", name := "puts", desc := "(Ljava/util/ArrayList;ILjava/lang/Object;)I" } : Jvm.MethodName) prog_1_method_13_code (3 : Nat) (Option.some Jvm.ClassFile.FieldType.int)) ∈ lw_all := lw_g (lw_at lw_m4 132 rfl) rfl
theorem q948 : (Jvm.Cond.methodLink "TouchShelf" (92 : Nat) ({ cls := "java/util/ArrayList", name := "add", desc := "(Ljava/lang/Object;)Z" } : Jvm.MethodName)) ∈ lw_all := lw_g (lw_at lw_m4 133 rfl) rfl
theorem q949 : (Jvm.Cond.methodLink "TouchShelf" (73 : Nat) ({ cls := "java/util/ArrayList", name := "size", desc := "()I" } : Jvm.MethodName)) ∈ lw_all := lw_g (lw_at lw_m4 134 rfl) rfl
theorem q950 : (Jvm.Cond.methodLink "TouchShelf" (96 : Nat) ({ cls := "java/util/ArrayList", name := "set", desc := "(ILjava/lang/Object;)Ljava/lang/Object;" } : Jvm.MethodName)) ∈ lw_all := lw_g (lw_at lw_m4 135 rfl) rfl
theorem q954 : (Jvm.Cond.classLink "TouchShelf" (116 : Nat) "TouchShelf$DaybookReader") ∈ lw_all := lw_g (lw_at lw_m4 139 rfl) rfl
theorem q956 : (Jvm.Cond.methodLink "TouchShelf" (118 : Nat) ({ cls := "TouchShelf$DaybookReader", name := "<init>", desc := "([BI)V" } : Jvm.MethodName)) ∈ lw_all := lw_g (lw_at lw_m4 141 rfl) rfl
theorem q976 : (Jvm.Cond.methodLink "TouchShelf" (119 : Nat) ({ cls := "TouchShelf$DaybookReader", name := "read", desc := "()Ljava/util/ArrayList;" } : Jvm.MethodName)) ∈ lw_all := lw_g (lw_at lw_m4 161 rfl) rfl
theorem q983 : (Jvm.Cond.classLink "TouchShelf" (125 : Nat) "TouchShelf$RoundReader") ∈ lw_all := lw_g (lw_at lw_m4 168 rfl) rfl
theorem q985 : (Jvm.Cond.methodLink "TouchShelf" (127 : Nat) ({ cls := "TouchShelf$RoundReader", name := "<init>", desc := "([BI)V" } : Jvm.MethodName)) ∈ lw_all := lw_g (lw_at lw_m4 170 rfl) rfl
theorem q999 : (Jvm.Cond.fieldLinkNest "TouchShelf" (358 : Nat) "TouchShelf$Round" "readers" "Ljava/util/ArrayList;" "TouchShelf") ∈ lw_tbl := lw_at lw_m4 184 rfl
theorem q1002 : (Jvm.Cond.fieldLinkNest "TouchShelf" (364 : Nat) "TouchShelf$Round" "asks" "Ljava/util/ArrayList;" "TouchShelf") ∈ lw_tbl := lw_at lw_m4 187 rfl
theorem q1023 : (Jvm.Cond.methodLink "TouchShelf" (128 : Nat) ({ cls := "TouchShelf$RoundReader", name := "read", desc := "()LTouchShelf$Round;" } : Jvm.MethodName)) ∈ lw_all := lw_g (lw_at lw_m4 208 rfl) rfl
theorem q1031 : (Jvm.Cond.instanceMethod ({ cls := "TouchShelf", name := "fault", desc := "(I)I" } : Jvm.MethodName)) ∈ lw_all := lw_g (lw_at lw_m4 216 rfl) rfl
theorem q1032 : (Jvm.Cond.selects "TouchShelf" ({ cls := "TouchShelf", name := "fault", desc := "(I)I" } : Jvm.MethodName) ({ cls := "TouchShelf", name := "fault", desc := "(I)I" } : Jvm.MethodName)) ∈ lw_all := lw_g (lw_at lw_m4 217 rfl) rfl
theorem q1033 : (Jvm.Cond.code ({ cls := "TouchShelf", name := "fault", desc := "(I)I" } : Jvm.MethodName) prog_1_method_16_code (2 : Nat) (Option.some Jvm.ClassFile.FieldType.int)) ∈ lw_all := lw_g (lw_at lw_m4 218 rfl) rfl
theorem q1035 : (Jvm.Cond.instanceMethod ({ cls := "TouchShelf", name := "library", desc := "(II)I" } : Jvm.MethodName)) ∈ lw_all := lw_g (lw_at lw_m4 220 rfl) rfl
theorem q1036 : (Jvm.Cond.selects "TouchShelf" ({ cls := "TouchShelf", name := "library", desc := "(II)I" } : Jvm.MethodName) ({ cls := "TouchShelf", name := "library", desc := "(II)I" } : Jvm.MethodName)) ∈ lw_all := lw_g (lw_at lw_m4 221 rfl) rfl
theorem q1037 : (Jvm.Cond.code ({ cls := "TouchShelf", name := "library", desc := "(II)I" } : Jvm.MethodName) prog_1_method_19_code (5 : Nat) (Option.some Jvm.ClassFile.FieldType.int)) ∈ lw_all := lw_g (lw_at lw_m4 222 rfl) rfl
theorem q1038 : (Jvm.Cond.methodLink "TouchShelf" (66 : Nat) ({ cls := "TouchShelf", name := "library", desc := "(I)LTouchShelf$Library;" } : Jvm.MethodName)) ∈ lw_all := lw_g (lw_at lw_m4 223 rfl) rfl
theorem q1039 : (Jvm.Cond.privateMethod ({ cls := "TouchShelf", name := "library", desc := "(I)LTouchShelf$Library;" } : Jvm.MethodName)) ∈ lw_tbl := lw_at lw_m4 224 rfl
theorem q1040 : (Jvm.Cond.instanceMethod ({ cls := "TouchShelf", name := "library", desc := "(I)LTouchShelf$Library;" } : Jvm.MethodName)) ∈ lw_all := lw_g (lw_at lw_m4 225 rfl) rfl
theorem q1041 : (Jvm.Cond.code ({ cls := "TouchShelf", name := "library", desc := "(I)LTouchShelf$Library;" } : Jvm.MethodName) prog_1_method_7_code (2 : Nat) (Option.some (Jvm.ClassFile.FieldType.object "TouchShelf$Library"))) ∈ lw_all := lw_g (lw_at lw_m4 226 rfl) rfl
theorem q1042 : (Jvm.Cond.methodLink "TouchShelf" (54 : Nat) ({ cls := "java/util/ArrayList", name := "get", desc := "(I)Ljava/lang/Object;" } : Jvm.MethodName)) ∈ lw_all := lw_g (lw_at lw_m4 227 rfl) rfl
theorem q1043 : (Jvm.Cond.classLink "TouchShelf" (60 : Nat) "TouchShelf$Library") ∈ lw_all := lw_g (lw_at lw_m4 228 rfl) rfl
theorem q1044 : (Jvm.Cond.methodLink "TouchShelf" (174 : Nat) ({ cls := "TouchShelf$Library", name := "here", desc := "()I" } : Jvm.MethodName)) ∈ lw_all := lw_g (lw_at lw_m4 229 rfl) rfl
theorem q1045 : (Jvm.Cond.methodLink "TouchShelf" (177 : Nat) ({ cls := "TouchShelf$Library", name := "close", desc := "(I)I" } : Jvm.MethodName)) ∈ lw_all := lw_g (lw_at lw_m4 230 rfl) rfl
theorem q1051 : (Jvm.Cond.static ({ cls := "TouchShelf", name := "has", desc := "(JI)Z" } : Jvm.MethodName)) ∈ lw_all := lw_g (lw_at lw_m4 236 rfl) rfl
theorem q1052 : (Jvm.Cond.code ({ cls := "TouchShelf", name := "has", desc := "(JI)Z" } : Jvm.MethodName) prog_1_method_2_code (3 : Nat) (Option.some Jvm.ClassFile.FieldType.boolean)) ∈ lw_all := lw_g (lw_at lw_m4 237 rfl) rfl
theorem q1054 : (Jvm.Cond.static ({ cls := "TouchShelf", name := "off", desc := "(II)I" } : Jvm.MethodName)) ∈ lw_all := lw_g (lw_at lw_m4 239 rfl) rfl
theorem q1055 : (Jvm.Cond.code ({ cls := "TouchShelf", name := "off", desc := "(II)I" } : Jvm.MethodName) prog_1_method_4_code (2 : Nat) (Option.some Jvm.ClassFile.FieldType.int)) ∈ lw_all := lw_g (lw_at lw_m5 0 rfl) rfl
theorem q1056 : (Jvm.Cond.methodLink "TouchShelf" (7 : Nat) ({ cls := "java/lang/Integer", name := "bitCount", desc := "(I)I" } : Jvm.MethodName)) ∈ lw_all := lw_g (lw_at lw_m5 1 rfl) rfl
theorem q1062 : (Jvm.Cond.methodLink "TouchShelf" (13 : Nat) ({ cls := "java/lang/Math", name := "max", desc := "(II)I" } : Jvm.MethodName)) ∈ lw_all := lw_g (lw_at lw_m5 7 rfl) rfl
theorem q1063 : (Jvm.Cond.methodLink "TouchShelf" (166 : Nat) ({ cls := "TouchShelf$Library", name := "tablets", desc := "()I" } : Jvm.MethodName)) ∈ lw_all := lw_g (lw_at lw_m5 8 rfl) rfl
theorem q1072 : (Jvm.Cond.methodLink "TouchShelf" (189 : Nat) ({ cls := "TouchShelf", name := "even", desc := "(LTouchShelf$Library;)I" } : Jvm.MethodName)) ∈ lw_all := lw_g (lw_at lw_m5 17 rfl) rfl
theorem q1073 : (Jvm.Cond.static ({ cls := "TouchShelf", name := "even", desc := "(LTouchShelf$Library;)I" } : Jvm.MethodName)) ∈ lw_all := lw_g (lw_at lw_m5 18 rfl) rfl
theorem q1074 : (Jvm.Cond.code ({ cls := "TouchShelf", name := "even", desc := "(LTouchShelf$Library;)I" } : Jvm.MethodName) prog_1_method_18_code (5 : Nat) (Option.some Jvm.ClassFile.FieldType.int)) ∈ lw_all := lw_g (lw_at lw_m5 19 rfl) rfl
theorem q1075 : (Jvm.Cond.methodLink "TouchShelf" (167 : Nat) ({ cls := "TouchShelf", name := "evens", desc := "(LTouchShelf$Library;II)I" } : Jvm.MethodName)) ∈ lw_all := lw_g (lw_at lw_m5 20 rfl) rfl
theorem q1076 : (Jvm.Cond.static ({ cls := "TouchShelf", name := "evens", desc := "(LTouchShelf$Library;II)I" } : Jvm.MethodName)) ∈ lw_all := lw_g (lw_at lw_m5 21 rfl) rfl
theorem q1077 : (Jvm.Cond.code ({ cls := "TouchShelf", name := "evens", desc := "(LTouchShelf$Library;II)I" } : Jvm.MethodName) prog_1_method_17_code (6 : Nat) (Option.some Jvm.ClassFile.FieldType.int)) ∈ lw_all := lw_g (lw_at lw_m5 22 rfl) rfl
theorem q1078 : (Jvm.Cond.methodLink "TouchShelf" (149 : Nat) ({ cls := "TouchShelf", name := "has", desc := "(JI)Z" } : Jvm.MethodName)) ∈ lw_all := lw_g (lw_at lw_m5 23 rfl) rfl
theorem q1079 : (Jvm.Cond.methodLink "TouchShelf" (153 : Nat) ({ cls := "TouchShelf$Library", name := "shelf", desc := "(I)LTouchShelf$Shelf;" } : Jvm.MethodName)) ∈ lw_all := lw_g (lw_at lw_m5 24 rfl) rfl
theorem q1080 : (Jvm.Cond.methodLink "TouchShelf" (163 : Nat) ({ cls := "TouchShelf$Shelf", name := "tablets", desc := "()I" } : Jvm.MethodName)) ∈ lw_all := lw_g (lw_at lw_m5 25 rfl) rfl
theorem q1081 : (Jvm.Cond.methodLink "TouchShelf" (171 : Nat) ({ cls := "java/lang/Math", name := "min", desc := "(II)I" } : Jvm.MethodName)) ∈ lw_all := lw_g (lw_at lw_m5 26 rfl) rfl
theorem q1083 : (Jvm.Cond.instanceMethod ({ cls := "TouchShelf", name := "shelf", desc := "(III)I" } : Jvm.MethodName)) ∈ lw_all := lw_g (lw_at lw_m5 28 rfl) rfl
theorem q1084 : (Jvm.Cond.selects "TouchShelf" ({ cls := "TouchShelf", name := "shelf", desc := "(III)I" } : Jvm.MethodName) ({ cls := "TouchShelf", name := "shelf", desc := "(III)I" } : Jvm.MethodName)) ∈ lw_all := lw_g (lw_at lw_m5 29 rfl) rfl
theorem q1085 : (Jvm.Cond.code ({ cls := "TouchShelf", name := "shelf", desc := "(III)I" } : Jvm.MethodName) prog_1_method_21_code (7 : Nat) (Option.some Jvm.ClassFile.FieldType.int)) ∈ lw_all := lw_g (lw_at lw_m5 30 rfl) rfl
theorem q1086 : (Jvm.Cond.methodLink "TouchShelf" (204 : Nat) ({ cls := "TouchShelf", name := "isShelf", desc := "(II)Z" } : Jvm.MethodName)) ∈ lw_all := lw_g (lw_at lw_m5 31 rfl) rfl
theorem q1087 : (Jvm.Cond.privateMethod ({ cls := "TouchShelf", name := "isShelf", desc := "(II)Z" } : Jvm.MethodName)) ∈ lw_tbl := lw_at lw_m5 32 rfl
theorem q1088 : (Jvm.Cond.instanceMethod ({ cls := "TouchShelf", name := "isShelf", desc := "(II)Z" } : Jvm.MethodName)) ∈ lw_all := lw_g (lw_at lw_m5 33 rfl) rfl
theorem q1089 : (Jvm.Cond.code ({ cls := "TouchShelf", name := "isShelf", desc := "(II)Z" } : Jvm.MethodName) prog_1_method_8_code (3 : Nat) (Option.some Jvm.ClassFile.FieldType.boolean)) ∈ lw_all := lw_g (lw_at lw_m5 34 rfl) rfl
theorem q1090 : (Jvm.Cond.methodLink "TouchShelf" (210 : Nat) ({ cls := "TouchShelf$Shelf", name := "turned", desc := "()I" } : Jvm.MethodName)) ∈ lw_all := lw_g (lw_at lw_m5 35 rfl) rfl
theorem q1099 : (Jvm.Cond.methodLink "TouchShelf" (213 : Nat) ({ cls := "TouchShelf", name := "slides", desc := "(LTouchShelf$Shelf;)LTouchShelf$Slides;" } : Jvm.MethodName)) ∈ lw_all := lw_g (lw_at lw_m5 44 rfl) rfl
theorem q1100 : (Jvm.Cond.privateMethod ({ cls := "TouchShelf", name := "slides", desc := "(LTouchShelf$Shelf;)LTouchShelf$Slides;" } : Jvm.MethodName)) ∈ lw_tbl := lw_at lw_m5 45 rfl
theorem q1101 : (Jvm.Cond.instanceMethod ({ cls := "TouchShelf", name := "slides", desc := "(LTouchShelf$Shelf;)LTouchShelf$Slides;" } : Jvm.MethodName)) ∈ lw_all := lw_g (lw_at lw_m5 46 rfl) rfl
theorem q1102 : (Jvm.Cond.code ({ cls := "TouchShelf", name := "slides", desc := "(LTouchShelf$Shelf;)LTouchShelf$Slides;" } : Jvm.MethodName) prog_1_method_20_code (2 : Nat) (Option.some (Jvm.ClassFile.FieldType.object "TouchShelf$Slides"))) ∈ lw_all := lw_g (lw_at lw_m5 47 rfl) rfl
theorem q1103 : (Jvm.Cond.classLink "TouchShelf" (197 : Nat) "TouchShelf$Slides") ∈ lw_all := lw_g (lw_at lw_m5 48 rfl) rfl
theorem q1105 : (Jvm.Cond.methodLinkNest "TouchShelf" (199 : Nat) ({ cls := "TouchShelf$Slides", name := "<init>", desc := "()V" } : Jvm.MethodName) "TouchShelf") ∈ lw_tbl := lw_at lw_m5 50 rfl
theorem q1128 : (Jvm.Cond.methodLink "TouchShelf" (200 : Nat) ({ cls := "TouchShelf$Slides", name := "of", desc := "(LTouchShelf$Shelf;)LTouchShelf$Slides;" } : Jvm.MethodName)) ∈ lw_all := lw_g (lw_at lw_m5 73 rfl) rfl
theorem q1196 : (Jvm.Cond.methodLink "TouchShelf" (215 : Nat) ({ cls := "TouchShelf$Slides", name := "many", desc := "([I)I" } : Jvm.MethodName)) ∈ lw_all := lw_g (lw_at lw_m5 141 rfl) rfl
theorem q1200 : (Jvm.Cond.methodLink "TouchShelf" (218 : Nat) ({ cls := "TouchShelf$Slides", name := "first", desc := "([I)I" } : Jvm.MethodName)) ∈ lw_all := lw_g (lw_at lw_m5 145 rfl) rfl
theorem q1205 : (Jvm.Cond.methodLink "TouchShelf" (221 : Nat) ({ cls := "TouchShelf$Shelf", name := "longest", desc := "()I" } : Jvm.MethodName)) ∈ lw_all := lw_g (lw_at lw_m5 150 rfl) rfl
theorem q1211 : (Jvm.Cond.instanceMethod ({ cls := "TouchShelf", name := "place", desc := "(III)I" } : Jvm.MethodName)) ∈ lw_all := lw_g (lw_at lw_m5 156 rfl) rfl
theorem q1212 : (Jvm.Cond.selects "TouchShelf" ({ cls := "TouchShelf", name := "place", desc := "(III)I" } : Jvm.MethodName) ({ cls := "TouchShelf", name := "place", desc := "(III)I" } : Jvm.MethodName)) ∈ lw_all := lw_g (lw_at lw_m5 157 rfl) rfl
theorem q1213 : (Jvm.Cond.code ({ cls := "TouchShelf", name := "place", desc := "(III)I" } : Jvm.MethodName) prog_1_method_22_code (4 : Nat) (Option.some Jvm.ClassFile.FieldType.int)) ∈ lw_all := lw_g (lw_at lw_m5 158 rfl) rfl
theorem q1214 : (Jvm.Cond.methodLink "TouchShelf" (224 : Nat) ({ cls := "TouchShelf", name := "isPlace", desc := "(III)Z" } : Jvm.MethodName)) ∈ lw_all := lw_g (lw_at lw_m5 159 rfl) rfl
theorem q1215 : (Jvm.Cond.privateMethod ({ cls := "TouchShelf", name := "isPlace", desc := "(III)Z" } : Jvm.MethodName)) ∈ lw_tbl := lw_at lw_m5 160 rfl
theorem q1216 : (Jvm.Cond.instanceMethod ({ cls := "TouchShelf", name := "isPlace", desc := "(III)Z" } : Jvm.MethodName)) ∈ lw_all := lw_g (lw_at lw_m5 161 rfl) rfl
theorem q1217 : (Jvm.Cond.code ({ cls := "TouchShelf", name := "isPlace", desc := "(III)Z" } : Jvm.MethodName) prog_1_method_9_code (4 : Nat) (Option.some Jvm.ClassFile.FieldType.boolean)) ∈ lw_all := lw_g (lw_at lw_m5 162 rfl) rfl
theorem q1218 : (Jvm.Cond.methodLink "TouchShelf" (77 : Nat) ({ cls := "TouchShelf$Library", name := "isPlace", desc := "(II)Z" } : Jvm.MethodName)) ∈ lw_all := lw_g (lw_at lw_m5 163 rfl) rfl
theorem q1224 : (Jvm.Cond.instanceMethod ({ cls := "TouchShelf", name := "off", desc := "(IIIZ)I" } : Jvm.MethodName)) ∈ lw_all := lw_g (lw_at lw_m5 169 rfl) rfl
theorem q1225 : (Jvm.Cond.selects "TouchShelf" ({ cls := "TouchShelf", name := "off", desc := "(IIIZ)I" } : Jvm.MethodName) ({ cls := "TouchShelf", name := "off", desc := "(IIIZ)I" } : Jvm.MethodName)) ∈ lw_all := lw_g (lw_at lw_m5 170 rfl) rfl
theorem q1226 : (Jvm.Cond.code ({ cls := "TouchShelf", name := "off", desc := "(IIIZ)I" } : Jvm.MethodName) prog_1_method_23_code (5 : Nat) (Option.some Jvm.ClassFile.FieldType.int)) ∈ lw_all := lw_g (lw_at lw_m5 171 rfl) rfl
theorem q1227 : (Jvm.Cond.methodLink "TouchShelf" (226 : Nat) ({ cls := "TouchShelf", name := "isMark", desc := "(II)Z" } : Jvm.MethodName)) ∈ lw_all := lw_g (lw_at lw_m5 172 rfl) rfl
theorem q1228 : (Jvm.Cond.privateMethod ({ cls := "TouchShelf", name := "isMark", desc := "(II)Z" } : Jvm.MethodName)) ∈ lw_tbl := lw_at lw_m5 173 rfl
theorem q1229 : (Jvm.Cond.instanceMethod ({ cls := "TouchShelf", name := "isMark", desc := "(II)Z" } : Jvm.MethodName)) ∈ lw_all := lw_g (lw_at lw_m5 174 rfl) rfl
theorem q1230 : (Jvm.Cond.code ({ cls := "TouchShelf", name := "isMark", desc := "(II)Z" } : Jvm.MethodName) prog_1_method_10_code (3 : Nat) (Option.some Jvm.ClassFile.FieldType.boolean)) ∈ lw_all := lw_g (lw_at lw_m5 175 rfl) rfl
theorem q1231 : (Jvm.Cond.methodLink "TouchShelf" (80 : Nat) ({ cls := "TouchShelf$Library", name := "isMark", desc := "(I)Z" } : Jvm.MethodName)) ∈ lw_all := lw_g (lw_at lw_m5 176 rfl) rfl
theorem q1235 : (Jvm.Cond.methodLink "TouchShelf" (228 : Nat) ({ cls := "TouchShelf", name := "off", desc := "(II)I" } : Jvm.MethodName)) ∈ lw_all := lw_g (lw_at lw_m5 180 rfl) rfl
theorem q1237 : (Jvm.Cond.instanceMethod ({ cls := "TouchShelf", name := "readings", desc := "(III)J" } : Jvm.MethodName)) ∈ lw_all := lw_g (lw_at lw_m5 182 rfl) rfl
theorem q1238 : (Jvm.Cond.selects "TouchShelf" ({ cls := "TouchShelf", name := "readings", desc := "(III)J" } : Jvm.MethodName) ({ cls := "TouchShelf", name := "readings", desc := "(III)J" } : Jvm.MethodName)) ∈ lw_all := lw_g (lw_at lw_m5 183 rfl) rfl
theorem q1239 : (Jvm.Cond.code ({ cls := "TouchShelf", name := "readings", desc := "(III)J" } : Jvm.MethodName) prog_1_method_25_code (5 : Nat) (Option.some Jvm.ClassFile.FieldType.long)) ∈ lw_all := lw_g (lw_at lw_m5 184 rfl) rfl
theorem q1240 : (Jvm.Cond.constantLong "TouchShelf" (233 : Nat) (-1 : Int64)) ∈ lw_all := lw_g (lw_at lw_m5 185 rfl) rfl
theorem q1241 : (Jvm.Cond.methodLink "TouchShelf" (235 : Nat) ({ cls := "TouchShelf$Library", name := "readings", desc := "(I)I" } : Jvm.MethodName)) ∈ lw_all := lw_g (lw_at lw_m5 186 rfl) rfl
theorem q1246 : (Jvm.Cond.methodLink "TouchShelf" (238 : Nat) ({ cls := "TouchShelf", name := "wide", desc := "(I)J" } : Jvm.MethodName)) ∈ lw_all := lw_g (lw_at lw_m5 191 rfl) rfl
theorem q1247 : (Jvm.Cond.static ({ cls := "TouchShelf", name := "wide", desc := "(I)J" } : Jvm.MethodName)) ∈ lw_all := lw_g (lw_at lw_m5 192 rfl) rfl
theorem q1248 : (Jvm.Cond.code ({ cls := "TouchShelf", name := "wide", desc := "(I)J" } : Jvm.MethodName) prog_1_method_24_code (1 : Nat) (Option.some Jvm.ClassFile.FieldType.long)) ∈ lw_all := lw_g (lw_at lw_m5 193 rfl) rfl
theorem q1249 : (Jvm.Cond.constantLong "TouchShelf" (231 : Nat) (4294967295 : Int64)) ∈ lw_all := lw_g (lw_at lw_m5 194 rfl) rfl
theorem q1251 : (Jvm.Cond.instanceMethod ({ cls := "TouchShelf", name := "between", desc := "(IIII)J" } : Jvm.MethodName)) ∈ lw_all := lw_g (lw_at lw_m5 196 rfl) rfl
theorem q1252 : (Jvm.Cond.selects "TouchShelf" ({ cls := "TouchShelf", name := "between", desc := "(IIII)J" } : Jvm.MethodName) ({ cls := "TouchShelf", name := "between", desc := "(IIII)J" } : Jvm.MethodName)) ∈ lw_all := lw_g (lw_at lw_m5 197 rfl) rfl
theorem q1253 : (Jvm.Cond.code ({ cls := "TouchShelf", name := "between", desc := "(IIII)J" } : Jvm.MethodName) prog_1_method_26_code (10 : Nat) (Option.some Jvm.ClassFile.FieldType.long)) ∈ lw_all := lw_g (lw_at lw_m5 198 rfl) rfl
theorem q1255 : (Jvm.Cond.instanceMethod ({ cls := "TouchShelf", name := "fresh", desc := "(II)I" } : Jvm.MethodName)) ∈ lw_all := lw_g (lw_at lw_m5 200 rfl) rfl
theorem q1256 : (Jvm.Cond.selects "TouchShelf" ({ cls := "TouchShelf", name := "fresh", desc := "(II)I" } : Jvm.MethodName) ({ cls := "TouchShelf", name := "fresh", desc := "(II)I" } : Jvm.MethodName)) ∈ lw_all := lw_g (lw_at lw_m5 201 rfl) rfl
theorem q1257 : (Jvm.Cond.code ({ cls := "TouchShelf", name := "fresh", desc := "(II)I" } : Jvm.MethodName) prog_1_method_27_code (8 : Nat) (Option.some Jvm.ClassFile.FieldType.int)) ∈ lw_all := lw_g (lw_at lw_m5 202 rfl) rfl
theorem q1258 : (Jvm.Cond.methodLink "TouchShelf" (242 : Nat) ({ cls := "TouchShelf$Library", name := "marks", desc := "()I" } : Jvm.MethodName)) ∈ lw_all := lw_g (lw_at lw_m5 203 rfl) rfl
theorem q1260 : (Jvm.Cond.instanceMethod ({ cls := "TouchShelf", name := "set", desc := "(IIZI)I" } : Jvm.MethodName)) ∈ lw_all := lw_g (lw_at lw_m5 205 rfl) rfl
theorem q1261 : (Jvm.Cond.selects "TouchShelf" ({ cls := "TouchShelf", name := "set", desc := "(IIZI)I" } : Jvm.MethodName) ({ cls := "TouchShelf", name := "set", desc := "(IIZI)I" } : Jvm.MethodName)) ∈ lw_all := lw_g (lw_at lw_m5 206 rfl) rfl
theorem q1262 : (Jvm.Cond.code ({ cls := "TouchShelf", name := "set", desc := "(IIZI)I" } : Jvm.MethodName) prog_1_method_29_code (11 : Nat) (Option.some Jvm.ClassFile.FieldType.int)) ∈ lw_all := lw_g (lw_at lw_m5 207 rfl) rfl
theorem q1263 : (Jvm.Cond.methodLink "TouchShelf" (245 : Nat) ({ cls := "TouchShelf$Library", name := "every", desc := "()I" } : Jvm.MethodName)) ∈ lw_all := lw_g (lw_at lw_m5 208 rfl) rfl
theorem q1267 : (Jvm.Cond.methodLink "TouchShelf" (248 : Nat) ({ cls := "TouchShelf$Sets", name := "most", desc := "(IIII)I" } : Jvm.MethodName)) ∈ lw_all := lw_g (lw_at lw_m5 212 rfl) rfl
theorem q1281 : (Jvm.Cond.methodLink "TouchShelf" (252 : Nat) ({ cls := "TouchShelf", name := "ofSet", desc := "(II)I" } : Jvm.MethodName)) ∈ lw_all := lw_g (lw_at lw_m5 226 rfl) rfl
theorem q1282 : (Jvm.Cond.static ({ cls := "TouchShelf", name := "ofSet", desc := "(II)I" } : Jvm.MethodName)) ∈ lw_all := lw_g (lw_at lw_m5 227 rfl) rfl
theorem q1283 : (Jvm.Cond.code ({ cls := "TouchShelf", name := "ofSet", desc := "(II)I" } : Jvm.MethodName) prog_1_method_28_code (4 : Nat) (Option.some Jvm.ClassFile.FieldType.int)) ∈ lw_all := lw_g (lw_at lw_m5 228 rfl) rfl
theorem q1285 : (Jvm.Cond.instanceMethod ({ cls := "TouchShelf", name := "pairs", desc := "(II)I" } : Jvm.MethodName)) ∈ lw_all := lw_g (lw_at lw_m5 230 rfl) rfl
theorem q1286 : (Jvm.Cond.selects "TouchShelf" ({ cls := "TouchShelf", name := "pairs", desc := "(II)I" } : Jvm.MethodName) ({ cls := "TouchShelf", name := "pairs", desc := "(II)I" } : Jvm.MethodName)) ∈ lw_all := lw_g (lw_at lw_m5 231 rfl) rfl
theorem q1287 : (Jvm.Cond.code ({ cls := "TouchShelf", name := "pairs", desc := "(II)I" } : Jvm.MethodName) prog_1_method_30_code (7 : Nat) (Option.some Jvm.ClassFile.FieldType.int)) ∈ lw_all := lw_g (lw_at lw_m5 232 rfl) rfl
theorem q1289 : (Jvm.Cond.instanceMethod ({ cls := "TouchShelf", name := "tells", desc := "(I)I" } : Jvm.MethodName)) ∈ lw_all := lw_g (lw_at lw_m5 234 rfl) rfl
theorem q1290 : (Jvm.Cond.selects "TouchShelf" ({ cls := "TouchShelf", name := "tells", desc := "(I)I" } : Jvm.MethodName) ({ cls := "TouchShelf", name := "tells", desc := "(I)I" } : Jvm.MethodName)) ∈ lw_all := lw_g (lw_at lw_m5 235 rfl) rfl
theorem q1291 : (Jvm.Cond.code ({ cls := "TouchShelf", name := "tells", desc := "(I)I" } : Jvm.MethodName) prog_1_method_31_code (8 : Nat) (Option.some Jvm.ClassFile.FieldType.int)) ∈ lw_all := lw_g (lw_at lw_m5 236 rfl) rfl
theorem q1293 : (Jvm.Cond.instanceMethod ({ cls := "TouchShelf", name := "nearest", desc := "(III)I" } : Jvm.MethodName)) ∈ lw_all := lw_g (lw_at lw_m5 238 rfl) rfl
theorem q1294 : (Jvm.Cond.selects "TouchShelf" ({ cls := "TouchShelf", name := "nearest", desc := "(III)I" } : Jvm.MethodName) ({ cls := "TouchShelf", name := "nearest", desc := "(III)I" } : Jvm.MethodName)) ∈ lw_all := lw_g (lw_at lw_m5 239 rfl) rfl
theorem q1295 : (Jvm.Cond.code ({ cls := "TouchShelf", name := "nearest", desc := "(III)I" } : Jvm.MethodName) prog_1_method_32_code (9 : Nat) (Option.some Jvm.ClassFile.FieldType.int)) ∈ lw_all := lw_g (lw_at lw_m6 0 rfl) rfl
theorem q1296 : (Jvm.Cond.constant "TouchShelf" (255 : Nat) (1000000 : Int32)) ∈ lw_all := lw_g (lw_at lw_m6 1 rfl) rfl
theorem q1297 : (Jvm.Cond.methodLink "TouchShelf" (256 : Nat) ({ cls := "TouchShelf$Shelf", name := "isTablet", desc := "(I)Z" } : Jvm.MethodName)) ∈ lw_all := lw_g (lw_at lw_m6 2 rfl) rfl
theorem q1299 : (Jvm.Cond.instanceMethod ({ cls := "TouchShelf", name := "walk", desc := "(IIII)I" } : Jvm.MethodName)) ∈ lw_all := lw_g (lw_at lw_m6 4 rfl) rfl
theorem q1300 : (Jvm.Cond.selects "TouchShelf" ({ cls := "TouchShelf", name := "walk", desc := "(IIII)I" } : Jvm.MethodName) ({ cls := "TouchShelf", name := "walk", desc := "(IIII)I" } : Jvm.MethodName)) ∈ lw_all := lw_g (lw_at lw_m6 5 rfl) rfl
theorem q1301 : (Jvm.Cond.code ({ cls := "TouchShelf", name := "walk", desc := "(IIII)I" } : Jvm.MethodName) prog_1_method_33_code (7 : Nat) (Option.some Jvm.ClassFile.FieldType.int)) ∈ lw_all := lw_g (lw_at lw_m6 6 rfl) rfl
theorem q1303 : (Jvm.Cond.instanceMethod ({ cls := "TouchShelf", name := "halving", desc := "(IIIZ)I" } : Jvm.MethodName)) ∈ lw_all := lw_g (lw_at lw_m6 8 rfl) rfl
theorem q1304 : (Jvm.Cond.selects "TouchShelf" ({ cls := "TouchShelf", name := "halving", desc := "(IIIZ)I" } : Jvm.MethodName) ({ cls := "TouchShelf", name := "halving", desc := "(IIIZ)I" } : Jvm.MethodName)) ∈ lw_all := lw_g (lw_at lw_m6 9 rfl) rfl
theorem q1305 : (Jvm.Cond.code ({ cls := "TouchShelf", name := "halving", desc := "(IIIZ)I" } : Jvm.MethodName) prog_1_method_34_code (6 : Nat) (Option.some Jvm.ClassFile.FieldType.int)) ∈ lw_all := lw_g (lw_at lw_m6 10 rfl) rfl
theorem q1306 : (Jvm.Cond.methodLink "TouchShelf" (259 : Nat) ({ cls := "TouchShelf$Shelf", name := "halving", desc := "(I)I" } : Jvm.MethodName)) ∈ lw_all := lw_g (lw_at lw_m6 11 rfl) rfl
theorem q1311 : (Jvm.Cond.instanceMethod ({ cls := "TouchShelf", name := "hardest", desc := "(III)I" } : Jvm.MethodName)) ∈ lw_all := lw_g (lw_at lw_m6 16 rfl) rfl
theorem q1312 : (Jvm.Cond.selects "TouchShelf" ({ cls := "TouchShelf", name := "hardest", desc := "(III)I" } : Jvm.MethodName) ({ cls := "TouchShelf", name := "hardest", desc := "(III)I" } : Jvm.MethodName)) ∈ lw_all := lw_g (lw_at lw_m6 17 rfl) rfl
theorem q1313 : (Jvm.Cond.code ({ cls := "TouchShelf", name := "hardest", desc := "(III)I" } : Jvm.MethodName) prog_1_method_35_code (10 : Nat) (Option.some Jvm.ClassFile.FieldType.int)) ∈ lw_all := lw_g (lw_at lw_m6 18 rfl) rfl
theorem q1314 : (Jvm.Cond.methodLink "TouchShelf" (262 : Nat) ({ cls := "TouchShelf$Shelf", name := "hole", desc := "()I" } : Jvm.MethodName)) ∈ lw_all := lw_g (lw_at lw_m6 19 rfl) rfl
theorem q1318 : (Jvm.Cond.methodLink "TouchShelf" (265 : Nat) ({ cls := "TouchShelf$Shelf", name := "row", desc := "()[I" } : Jvm.MethodName)) ∈ lw_all := lw_g (lw_at lw_m6 23 rfl) rfl
theorem q1319 : (Jvm.Cond.methodLink "TouchShelf" (269 : Nat) ({ cls := "java/util/Arrays", name := "sort", desc := "([I)V" } : Jvm.MethodName)) ∈ lw_all := lw_g (lw_at lw_m6 24 rfl) rfl
theorem q1321 : (Jvm.Cond.instanceMethod ({ cls := "TouchShelf", name := "mean", desc := "(IIZ)I" } : Jvm.MethodName)) ∈ lw_all := lw_g (lw_at lw_m6 26 rfl) rfl
theorem q1322 : (Jvm.Cond.selects "TouchShelf" ({ cls := "TouchShelf", name := "mean", desc := "(IIZ)I" } : Jvm.MethodName) ({ cls := "TouchShelf", name := "mean", desc := "(IIZ)I" } : Jvm.MethodName)) ∈ lw_all := lw_g (lw_at lw_m6 27 rfl) rfl
theorem q1323 : (Jvm.Cond.code ({ cls := "TouchShelf", name := "mean", desc := "(IIZ)I" } : Jvm.MethodName) prog_1_method_39_code (10 : Nat) (Option.some Jvm.ClassFile.FieldType.int)) ∈ lw_all := lw_g (lw_at lw_m6 28 rfl) rfl
theorem q1324 : (Jvm.Cond.methodLink "TouchShelf" (275 : Nat) ({ cls := "TouchShelf", name := "weights", desc := "(LTouchShelf$Library;)I" } : Jvm.MethodName)) ∈ lw_all := lw_g (lw_at lw_m6 29 rfl) rfl
theorem q1325 : (Jvm.Cond.static ({ cls := "TouchShelf", name := "weights", desc := "(LTouchShelf$Library;)I" } : Jvm.MethodName)) ∈ lw_all := lw_g (lw_at lw_m6 30 rfl) rfl
theorem q1326 : (Jvm.Cond.code ({ cls := "TouchShelf", name := "weights", desc := "(LTouchShelf$Library;)I" } : Jvm.MethodName) prog_1_method_37_code (3 : Nat) (Option.some Jvm.ClassFile.FieldType.int)) ∈ lw_all := lw_g (lw_at lw_m6 31 rfl) rfl
theorem q1327 : (Jvm.Cond.methodLink "TouchShelf" (278 : Nat) ({ cls := "TouchShelf", name := "isOrder", desc := "(LTouchShelf$Library;I)Z" } : Jvm.MethodName)) ∈ lw_all := lw_g (lw_at lw_m6 32 rfl) rfl
theorem q1328 : (Jvm.Cond.static ({ cls := "TouchShelf", name := "isOrder", desc := "(LTouchShelf$Library;I)Z" } : Jvm.MethodName)) ∈ lw_all := lw_g (lw_at lw_m6 33 rfl) rfl
theorem q1329 : (Jvm.Cond.code ({ cls := "TouchShelf", name := "isOrder", desc := "(LTouchShelf$Library;I)Z" } : Jvm.MethodName) prog_1_method_38_code (6 : Nat) (Option.some Jvm.ClassFile.FieldType.boolean)) ∈ lw_all := lw_g (lw_at lw_m6 34 rfl) rfl
theorem q1330 : (Jvm.Cond.methodLink "TouchShelf" (282 : Nat) ({ cls := "TouchShelf", name := "felt", desc := "(LTouchShelf$Library;I)J" } : Jvm.MethodName)) ∈ lw_all := lw_g (lw_at lw_m6 35 rfl) rfl
theorem q1331 : (Jvm.Cond.static ({ cls := "TouchShelf", name := "felt", desc := "(LTouchShelf$Library;I)J" } : Jvm.MethodName)) ∈ lw_all := lw_g (lw_at lw_m6 36 rfl) rfl
theorem q1332 : (Jvm.Cond.code ({ cls := "TouchShelf", name := "felt", desc := "(LTouchShelf$Library;I)J" } : Jvm.MethodName) prog_1_method_36_code (7 : Nat) (Option.some Jvm.ClassFile.FieldType.long)) ∈ lw_all := lw_g (lw_at lw_m6 37 rfl) rfl
theorem q1333 : (Jvm.Cond.constantLong "TouchShelf" (286 : Nat) (2 : Int64)) ∈ lw_all := lw_g (lw_at lw_m6 38 rfl) rfl
theorem q1334 : (Jvm.Cond.methodLink "TouchShelf" (1 : Nat) ({ cls := "TouchShelf", name := "common", desc := "(JJ)J" } : Jvm.MethodName)) ∈ lw_all := lw_g (lw_at lw_m6 39 rfl) rfl
theorem q1335 : (Jvm.Cond.static ({ cls := "TouchShelf", name := "common", desc := "(JJ)J" } : Jvm.MethodName)) ∈ lw_all := lw_g (lw_at lw_m6 40 rfl) rfl
theorem q1336 : (Jvm.Cond.code ({ cls := "TouchShelf", name := "common", desc := "(JJ)J" } : Jvm.MethodName) prog_1_method_3_code (4 : Nat) (Option.some Jvm.ClassFile.FieldType.long)) ∈ lw_all := lw_g (lw_at lw_m6 41 rfl) rfl
theorem q1338 : (Jvm.Cond.instanceMethod ({ cls := "TouchShelf", name := "best", desc := "(II)I" } : Jvm.MethodName)) ∈ lw_all := lw_g (lw_at lw_m6 43 rfl) rfl
theorem q1339 : (Jvm.Cond.selects "TouchShelf" ({ cls := "TouchShelf", name := "best", desc := "(II)I" } : Jvm.MethodName) ({ cls := "TouchShelf", name := "best", desc := "(II)I" } : Jvm.MethodName)) ∈ lw_all := lw_g (lw_at lw_m6 44 rfl) rfl
theorem q1340 : (Jvm.Cond.code ({ cls := "TouchShelf", name := "best", desc := "(II)I" } : Jvm.MethodName) prog_1_method_40_code (6 : Nat) (Option.some Jvm.ClassFile.FieldType.int)) ∈ lw_all := lw_g (lw_at lw_m6 45 rfl) rfl
theorem q1342 : (Jvm.Cond.instanceMethod ({ cls := "TouchShelf", name := "insert", desc := "(III)I" } : Jvm.MethodName)) ∈ lw_all := lw_g (lw_at lw_m6 47 rfl) rfl
theorem q1343 : (Jvm.Cond.selects "TouchShelf" ({ cls := "TouchShelf", name := "insert", desc := "(III)I" } : Jvm.MethodName) ({ cls := "TouchShelf", name := "insert", desc := "(III)I" } : Jvm.MethodName)) ∈ lw_all := lw_g (lw_at lw_m6 48 rfl) rfl
theorem q1344 : (Jvm.Cond.code ({ cls := "TouchShelf", name := "insert", desc := "(III)I" } : Jvm.MethodName) prog_1_method_41_code (9 : Nat) (Option.some Jvm.ClassFile.FieldType.int)) ∈ lw_all := lw_g (lw_at lw_m6 49 rfl) rfl
theorem q1345 : (Jvm.Cond.methodLink "TouchShelf" (288 : Nat) ({ cls := "TouchShelf$Shelf", name := "copy", desc := "()LTouchShelf$Shelf;" } : Jvm.MethodName)) ∈ lw_all := lw_g (lw_at lw_m6 50 rfl) rfl
theorem q1354 : (Jvm.Cond.instanceMethod ({ cls := "TouchShelf", name := "swaps", desc := "(III)I" } : Jvm.MethodName)) ∈ lw_all := lw_g (lw_at lw_m6 59 rfl) rfl
theorem q1355 : (Jvm.Cond.selects "TouchShelf" ({ cls := "TouchShelf", name := "swaps", desc := "(III)I" } : Jvm.MethodName) ({ cls := "TouchShelf", name := "swaps", desc := "(III)I" } : Jvm.MethodName)) ∈ lw_all := lw_g (lw_at lw_m6 60 rfl) rfl
theorem q1356 : (Jvm.Cond.code ({ cls := "TouchShelf", name := "swaps", desc := "(III)I" } : Jvm.MethodName) prog_1_method_42_code (11 : Nat) (Option.some Jvm.ClassFile.FieldType.int)) ∈ lw_all := lw_g (lw_at lw_m6 61 rfl) rfl
theorem q1357 : (Jvm.Cond.methodLink "TouchShelf" (292 : Nat) ({ cls := "java/util/Arrays", name := "copyOf", desc := "([II)[I" } : Jvm.MethodName)) ∈ lw_all := lw_g (lw_at lw_m6 62 rfl) rfl
theorem q1358 : (Jvm.Cond.methodLink "TouchShelf" (296 : Nat) ({ cls := "java/lang/System", name := "arraycopy", desc := "(Ljava/lang/Object;ILjava/lang/Object;II)V" } : Jvm.MethodName)) ∈ lw_all := lw_g (lw_at lw_m6 63 rfl) rfl
theorem q1360 : (Jvm.Cond.instanceMethod ({ cls := "TouchShelf", name := "deed", desc := "(III)I" } : Jvm.MethodName)) ∈ lw_all := lw_g (lw_at lw_m6 65 rfl) rfl
theorem q1361 : (Jvm.Cond.selects "TouchShelf" ({ cls := "TouchShelf", name := "deed", desc := "(III)I" } : Jvm.MethodName) ({ cls := "TouchShelf", name := "deed", desc := "(III)I" } : Jvm.MethodName)) ∈ lw_all := lw_g (lw_at lw_m6 66 rfl) rfl
theorem q1362 : (Jvm.Cond.code ({ cls := "TouchShelf", name := "deed", desc := "(III)I" } : Jvm.MethodName) prog_1_method_43_code (5 : Nat) (Option.some Jvm.ClassFile.FieldType.int)) ∈ lw_all := lw_g (lw_at lw_m6 67 rfl) rfl
theorem q1363 : (Jvm.Cond.classLink "TouchShelf" (55 : Nat) "java/util/ArrayList") ∈ lw_all := lw_g (lw_at lw_m6 68 rfl) rfl
theorem q1364 : (Jvm.Cond.classLink "TouchShelf" (302 : Nat) "TouchShelf$Deed") ∈ lw_all := lw_g (lw_at lw_m6 69 rfl) rfl
theorem q1365 : (Jvm.Cond.methodLink "TouchShelf" (304 : Nat) ({ cls := "TouchShelf$Deed", name := "told", desc := "(I)I" } : Jvm.MethodName)) ∈ lw_all := lw_g (lw_at lw_m6 70 rfl) rfl
theorem q1376 : (Jvm.Cond.instanceMethod ({ cls := "TouchShelf", name := "stop", desc := "(II)I" } : Jvm.MethodName)) ∈ lw_all := lw_g (lw_at lw_m6 81 rfl) rfl
theorem q1377 : (Jvm.Cond.selects "TouchShelf" ({ cls := "TouchShelf", name := "stop", desc := "(II)I" } : Jvm.MethodName) ({ cls := "TouchShelf", name := "stop", desc := "(II)I" } : Jvm.MethodName)) ∈ lw_all := lw_g (lw_at lw_m6 82 rfl) rfl
theorem q1378 : (Jvm.Cond.code ({ cls := "TouchShelf", name := "stop", desc := "(II)I" } : Jvm.MethodName) prog_1_method_44_code (3 : Nat) (Option.some Jvm.ClassFile.FieldType.int)) ∈ lw_all := lw_g (lw_at lw_m6 83 rfl) rfl
theorem q1379 : (Jvm.Cond.classLink "TouchShelf" (307 : Nat) "TouchShelf$Course") ∈ lw_all := lw_g (lw_at lw_m6 84 rfl) rfl
theorem q1381 : (Jvm.Cond.methodLink "TouchShelf" (309 : Nat) ({ cls := "TouchShelf$Course", name := "<init>", desc := "(LTouchShelf$Library;)V" } : Jvm.MethodName)) ∈ lw_all := lw_g (lw_at lw_m6 86 rfl) rfl
theorem q1401 : (Jvm.Cond.fieldLinkNest "TouchShelf" (323 : Nat) "TouchShelf$Course" "at" "LTouchShelf$Library;" "TouchShelf") ∈ lw_tbl := lw_at lw_m6 106 rfl
theorem q1403 : (Jvm.Cond.fieldLinkNest "TouchShelf" (349 : Nat) "TouchShelf$Course" "may" "[[I" "TouchShelf") ∈ lw_tbl := lw_at lw_m6 108 rfl
theorem q1406 : (Jvm.Cond.fieldLinkNest "TouchShelf" (316 : Nat) "TouchShelf$Course" "done" "I" "TouchShelf") ∈ lw_tbl := lw_at lw_m6 111 rfl
theorem q1408 : (Jvm.Cond.fieldLinkNest "TouchShelf" (329 : Nat) "TouchShelf$Course" "wrong" "I" "TouchShelf") ∈ lw_tbl := lw_at lw_m6 113 rfl
theorem q1410 : (Jvm.Cond.fieldLinkNest "TouchShelf" (332 : Nat) "TouchShelf$Course" "firstWrong" "I" "TouchShelf") ∈ lw_tbl := lw_at lw_m6 115 rfl
theorem q1412 : (Jvm.Cond.fieldLinkNest "TouchShelf" (353 : Nat) "TouchShelf$Course" "hands" "I" "TouchShelf") ∈ lw_tbl := lw_at lw_m6 117 rfl
theorem q1434 : (Jvm.Cond.methodLink "TouchShelf" (312 : Nat) ({ cls := "TouchShelf$Course", name := "goes", desc := "(Ljava/util/ArrayList;I)LTouchShelf$Course;" } : Jvm.MethodName)) ∈ lw_all := lw_g (lw_at lw_m6 139 rfl) rfl
theorem q1472 : (Jvm.Cond.instanceMethod ({ cls := "TouchShelf", name := "lies", desc := "(IIIII)I" } : Jvm.MethodName)) ∈ lw_all := lw_g (lw_at lw_m6 177 rfl) rfl
theorem q1473 : (Jvm.Cond.selects "TouchShelf" ({ cls := "TouchShelf", name := "lies", desc := "(IIIII)I" } : Jvm.MethodName) ({ cls := "TouchShelf", name := "lies", desc := "(IIIII)I" } : Jvm.MethodName)) ∈ lw_all := lw_g (lw_at lw_m6 178 rfl) rfl
theorem q1474 : (Jvm.Cond.code ({ cls := "TouchShelf", name := "lies", desc := "(IIIII)I" } : Jvm.MethodName) prog_1_method_46_code (7 : Nat) (Option.some Jvm.ClassFile.FieldType.int)) ∈ lw_all := lw_g (lw_at lw_m6 179 rfl) rfl
theorem q1475 : (Jvm.Cond.methodLink "TouchShelf" (319 : Nat) ({ cls := "TouchShelf", name := "state", desc := "(III)LTouchShelf$Course;" } : Jvm.MethodName)) ∈ lw_all := lw_g (lw_at lw_m6 180 rfl) rfl
theorem q1476 : (Jvm.Cond.privateMethod ({ cls := "TouchShelf", name := "state", desc := "(III)LTouchShelf$Course;" } : Jvm.MethodName)) ∈ lw_tbl := lw_at lw_m6 181 rfl
theorem q1477 : (Jvm.Cond.instanceMethod ({ cls := "TouchShelf", name := "state", desc := "(III)LTouchShelf$Course;" } : Jvm.MethodName)) ∈ lw_all := lw_g (lw_at lw_m6 182 rfl) rfl
theorem q1478 : (Jvm.Cond.code ({ cls := "TouchShelf", name := "state", desc := "(III)LTouchShelf$Course;" } : Jvm.MethodName) prog_1_method_45_code (5 : Nat) (Option.some (Jvm.ClassFile.FieldType.object "TouchShelf$Course"))) ∈ lw_all := lw_g (lw_at lw_m6 183 rfl) rfl
theorem q1480 : (Jvm.Cond.instanceMethod ({ cls := "TouchShelf", name := "state", desc := "(IIII)J" } : Jvm.MethodName)) ∈ lw_all := lw_g (lw_at lw_m6 185 rfl) rfl
theorem q1481 : (Jvm.Cond.selects "TouchShelf" ({ cls := "TouchShelf", name := "state", desc := "(IIII)J" } : Jvm.MethodName) ({ cls := "TouchShelf", name := "state", desc := "(IIII)J" } : Jvm.MethodName)) ∈ lw_all := lw_g (lw_at lw_m6 186 rfl) rfl
theorem q1482 : (Jvm.Cond.code ({ cls := "TouchShelf", name := "state", desc := "(IIII)J" } : Jvm.MethodName) prog_1_method_49_code (6 : Nat) (Option.some Jvm.ClassFile.FieldType.long)) ∈ lw_all := lw_g (lw_at lw_m6 187 rfl) rfl
theorem q1483 : (Jvm.Cond.constantLong "TouchShelf" (327 : Nat) (-2 : Int64)) ∈ lw_all := lw_g (lw_at lw_m6 188 rfl) rfl
theorem q1484 : (Jvm.Cond.methodLink "TouchShelf" (335 : Nat) ({ cls := "TouchShelf$Course", name := "lent", desc := "()J" } : Jvm.MethodName)) ∈ lw_all := lw_g (lw_at lw_m6 189 rfl) rfl
theorem q1488 : (Jvm.Cond.methodLink "TouchShelf" (339 : Nat) ({ cls := "TouchShelf", name := "moved", desc := "(LTouchShelf$Library;LTouchShelf$Library;)I" } : Jvm.MethodName)) ∈ lw_all := lw_g (lw_at lw_m6 193 rfl) rfl
theorem q1489 : (Jvm.Cond.static ({ cls := "TouchShelf", name := "moved", desc := "(LTouchShelf$Library;LTouchShelf$Library;)I" } : Jvm.MethodName)) ∈ lw_all := lw_g (lw_at lw_m6 194 rfl) rfl
theorem q1490 : (Jvm.Cond.code ({ cls := "TouchShelf", name := "moved", desc := "(LTouchShelf$Library;LTouchShelf$Library;)I" } : Jvm.MethodName) prog_1_method_47_code (5 : Nat) (Option.some Jvm.ClassFile.FieldType.int)) ∈ lw_all := lw_g (lw_at lw_m6 195 rfl) rfl
theorem q1491 : (Jvm.Cond.methodLink "TouchShelf" (343 : Nat) ({ cls := "TouchShelf$Course", name := "sure", desc := "()I" } : Jvm.MethodName)) ∈ lw_all := lw_g (lw_at lw_m6 196 rfl) rfl
theorem q1496 : (Jvm.Cond.methodLink "TouchShelf" (346 : Nat) ({ cls := "TouchShelf", name := "inOrder", desc := "(LTouchShelf$Library;)I" } : Jvm.MethodName)) ∈ lw_all := lw_g (lw_at lw_m6 201 rfl) rfl
theorem q1497 : (Jvm.Cond.static ({ cls := "TouchShelf", name := "inOrder", desc := "(LTouchShelf$Library;)I" } : Jvm.MethodName)) ∈ lw_all := lw_g (lw_at lw_m6 202 rfl) rfl
theorem q1498 : (Jvm.Cond.code ({ cls := "TouchShelf", name := "inOrder", desc := "(LTouchShelf$Library;)I" } : Jvm.MethodName) prog_1_method_48_code (3 : Nat) (Option.some Jvm.ClassFile.FieldType.int)) ∈ lw_all := lw_g (lw_at lw_m6 203 rfl) rfl
theorem q1500 : (Jvm.Cond.instanceMethod ({ cls := "TouchShelf", name := "may", desc := "(IIIIIZ)J" } : Jvm.MethodName)) ∈ lw_all := lw_g (lw_at lw_m6 205 rfl) rfl
theorem q1501 : (Jvm.Cond.selects "TouchShelf" ({ cls := "TouchShelf", name := "may", desc := "(IIIIIZ)J" } : Jvm.MethodName) ({ cls := "TouchShelf", name := "may", desc := "(IIIIIZ)J" } : Jvm.MethodName)) ∈ lw_all := lw_g (lw_at lw_m6 206 rfl) rfl
theorem q1502 : (Jvm.Cond.code ({ cls := "TouchShelf", name := "may", desc := "(IIIIIZ)J" } : Jvm.MethodName) prog_1_method_50_code (11 : Nat) (Option.some Jvm.ClassFile.FieldType.long)) ∈ lw_all := lw_g (lw_at lw_m6 207 rfl) rfl
theorem q1504 : (Jvm.Cond.instanceMethod ({ cls := "TouchShelf", name := "hands", desc := "(III)I" } : Jvm.MethodName)) ∈ lw_all := lw_g (lw_at lw_m6 209 rfl) rfl
theorem q1505 : (Jvm.Cond.selects "TouchShelf" ({ cls := "TouchShelf", name := "hands", desc := "(III)I" } : Jvm.MethodName) ({ cls := "TouchShelf", name := "hands", desc := "(III)I" } : Jvm.MethodName)) ∈ lw_all := lw_g (lw_at lw_m6 210 rfl) rfl
theorem q1506 : (Jvm.Cond.code ({ cls := "TouchShelf", name := "hands", desc := "(III)I" } : Jvm.MethodName) prog_1_method_51_code (5 : Nat) (Option.some Jvm.ClassFile.FieldType.int)) ∈ lw_all := lw_g (lw_at lw_m6 211 rfl) rfl
theorem q1508 : (Jvm.Cond.instanceMethod ({ cls := "TouchShelf", name := "round", desc := "(II)I" } : Jvm.MethodName)) ∈ lw_all := lw_g (lw_at lw_m6 213 rfl) rfl
theorem q1509 : (Jvm.Cond.selects "TouchShelf" ({ cls := "TouchShelf", name := "round", desc := "(II)I" } : Jvm.MethodName) ({ cls := "TouchShelf", name := "round", desc := "(II)I" } : Jvm.MethodName)) ∈ lw_all := lw_g (lw_at lw_m6 214 rfl) rfl
theorem q1510 : (Jvm.Cond.code ({ cls := "TouchShelf", name := "round", desc := "(II)I" } : Jvm.MethodName) prog_1_method_52_code (4 : Nat) (Option.some Jvm.ClassFile.FieldType.int)) ∈ lw_all := lw_g (lw_at lw_m6 215 rfl) rfl
theorem q1511 : (Jvm.Cond.classLink "TouchShelf" (356 : Nat) "TouchShelf$Round") ∈ lw_all := lw_g (lw_at lw_m6 216 rfl) rfl
theorem q1512 : (Jvm.Cond.classLink "TouchShelf" (8 : Nat) "java/lang/Integer") ∈ lw_all := lw_g (lw_at lw_m6 217 rfl) rfl
theorem q1513 : (Jvm.Cond.methodLink "TouchShelf" (361 : Nat) ({ cls := "java/lang/Integer", name := "intValue", desc := "()I" } : Jvm.MethodName)) ∈ lw_all := lw_g (lw_at lw_m6 218 rfl) rfl
theorem q1517 : (Jvm.Cond.methodLink "TouchShelf" (367 : Nat) ({ cls := "TouchShelf$Round", name := "who", desc := "(I)I" } : Jvm.MethodName)) ∈ lw_all := lw_g (lw_at lw_m6 222 rfl) rfl
theorem q1549 : (Jvm.Cond.methodLink "TouchShelf" (370 : Nat) ({ cls := "TouchShelf$Round", name := "serve", desc := "()I" } : Jvm.MethodName)) ∈ lw_all := lw_g (lw_at lw_m7 14 rfl) rfl
theorem q1553 : (Jvm.Cond.methodLink "TouchShelf" (373 : Nat) ({ cls := "TouchShelf$Round", name := "greedy", desc := "()I" } : Jvm.MethodName)) ∈ lw_all := lw_g (lw_at lw_m7 18 rfl) rfl
theorem q1558 : (Jvm.Cond.instanceMethod ({ cls := "TouchShelf", name := "drawn", desc := "(IIIII)I" } : Jvm.MethodName)) ∈ lw_all := lw_g (lw_at lw_m7 23 rfl) rfl
theorem q1559 : (Jvm.Cond.selects "TouchShelf" ({ cls := "TouchShelf", name := "drawn", desc := "(IIIII)I" } : Jvm.MethodName) ({ cls := "TouchShelf", name := "drawn", desc := "(IIIII)I" } : Jvm.MethodName)) ∈ lw_all := lw_g (lw_at lw_m7 24 rfl) rfl
theorem q1560 : (Jvm.Cond.code ({ cls := "TouchShelf", name := "drawn", desc := "(IIIII)I" } : Jvm.MethodName) prog_1_method_54_code (12 : Nat) (Option.some Jvm.ClassFile.FieldType.int)) ∈ lw_all := lw_g (lw_at lw_m7 25 rfl) rfl
theorem q1561 : (Jvm.Cond.classLink "TouchShelf" (377 : Nat) "TouchShelf$Dice") ∈ lw_all := lw_g (lw_at lw_m7 26 rfl) rfl
theorem q1563 : (Jvm.Cond.methodLink "TouchShelf" (381 : Nat) ({ cls := "TouchShelf$Dice", name := "<init>", desc := "(I)V" } : Jvm.MethodName)) ∈ lw_all := lw_g (lw_at lw_m7 28 rfl) rfl
theorem q1571 : (Jvm.Cond.methodLink "TouchShelf" (384 : Nat) ({ cls := "TouchShelf", name := "worn", desc := "(LTouchShelf$Library;IILTouchShelf$Dice;)I" } : Jvm.MethodName)) ∈ lw_all := lw_g (lw_at lw_m7 36 rfl) rfl
theorem q1572 : (Jvm.Cond.static ({ cls := "TouchShelf", name := "worn", desc := "(LTouchShelf$Library;IILTouchShelf$Dice;)I" } : Jvm.MethodName)) ∈ lw_all := lw_g (lw_at lw_m7 37 rfl) rfl
theorem q1573 : (Jvm.Cond.code ({ cls := "TouchShelf", name := "worn", desc := "(LTouchShelf$Library;IILTouchShelf$Dice;)I" } : Jvm.MethodName) prog_1_method_53_code (7 : Nat) (Option.some Jvm.ClassFile.FieldType.int)) ∈ lw_all := lw_g (lw_at lw_m7 38 rfl) rfl
theorem q1574 : (Jvm.Cond.methodLink "TouchShelf" (376 : Nat) ({ cls := "TouchShelf$Dice", name := "below", desc := "(I)I" } : Jvm.MethodName)) ∈ lw_all := lw_g (lw_at lw_m7 39 rfl) rfl
theorem q1580 : (Jvm.Cond.instanceMethod ({ cls := "TouchShelf", name := "count", desc := "(I)I" } : Jvm.MethodName)) ∈ lw_all := lw_g (lw_at lw_m7 45 rfl) rfl
theorem q1581 : (Jvm.Cond.selects "TouchShelf" ({ cls := "TouchShelf", name := "count", desc := "(I)I" } : Jvm.MethodName) ({ cls := "TouchShelf", name := "count", desc := "(I)I" } : Jvm.MethodName)) ∈ lw_all := lw_g (lw_at lw_m7 46 rfl) rfl
theorem q1582 : (Jvm.Cond.code ({ cls := "TouchShelf", name := "count", desc := "(I)I" } : Jvm.MethodName) prog_1_method_55_code (2 : Nat) (Option.some Jvm.ClassFile.FieldType.int)) ∈ lw_all := lw_g (lw_at lw_m7 47 rfl) rfl
theorem q1584 : (Jvm.Cond.instanceMethod ({ cls := "TouchShelf", name := "image", desc := "(I)Z" } : Jvm.MethodName)) ∈ lw_all := lw_g (lw_at lw_m7 49 rfl) rfl
theorem q1585 : (Jvm.Cond.selects "TouchShelf" ({ cls := "TouchShelf", name := "image", desc := "(I)Z" } : Jvm.MethodName) ({ cls := "TouchShelf", name := "image", desc := "(I)Z" } : Jvm.MethodName)) ∈ lw_all := lw_g (lw_at lw_m7 50 rfl) rfl
theorem q1586 : (Jvm.Cond.code ({ cls := "TouchShelf", name := "image", desc := "(I)Z" } : Jvm.MethodName) prog_1_method_56_code (2 : Nat) (Option.some Jvm.ClassFile.FieldType.boolean)) ∈ lw_all := lw_g (lw_at lw_m7 51 rfl) rfl
theorem q1587 : (Jvm.Cond.methodLink "TouchShelf" (388 : Nat) ({ cls := "TouchShelf$State", name := "be", desc := "(LTouchShelf$State;)V" } : Jvm.MethodName)) ∈ lw_all := lw_g (lw_at lw_m7 52 rfl) rfl
theorem q1612 : (Jvm.Cond.instanceMethod ({ cls := "TouchShelf", name := "again", desc := "(I)Z" } : Jvm.MethodName)) ∈ lw_all := lw_g (lw_at lw_m7 77 rfl) rfl
theorem q1613 : (Jvm.Cond.selects "TouchShelf" ({ cls := "TouchShelf", name := "again", desc := "(I)Z" } : Jvm.MethodName) ({ cls := "TouchShelf", name := "again", desc := "(I)Z" } : Jvm.MethodName)) ∈ lw_all := lw_g (lw_at lw_m7 78 rfl) rfl
theorem q1614 : (Jvm.Cond.code ({ cls := "TouchShelf", name := "again", desc := "(I)Z" } : Jvm.MethodName) prog_1_method_57_code (2 : Nat) (Option.some Jvm.ClassFile.FieldType.boolean)) ∈ lw_all := lw_g (lw_at lw_m7 79 rfl) rfl
theorem q2284 : (Jvm.Cond.castable "TouchShelf" "java/lang/Object") ∈ lw_tbl := lw_at lw_m10 29 rfl
theorem in_X0 : ∀ w ∈ wsX00, w ∈ lw_all := lw_in wsX00 [229, 231, 233, 235] (by decide +kernel) (by decide +kernel)
theorem q97 : (Jvm.Cond.initialized "TouchShelf$State") ∈ lw_all := lw_g (lw_at lw_m1 2 rfl) rfl
theorem q144 : (Jvm.Cond.instantiable "TouchShelf$State" (7 : Nat)) ∈ lw_all := lw_g (lw_at lw_m1 49 rfl) rfl
theorem q146 : (Jvm.Cond.instanceMethod ({ cls := "TouchShelf$State", name := "<init>", desc := "()V" } : Jvm.MethodName)) ∈ lw_all := lw_g (lw_at lw_m1 51 rfl) rfl
theorem q147 : (Jvm.Cond.code ({ cls := "TouchShelf$State", name := "<init>", desc := "()V" } : Jvm.MethodName) prog_16_method_1_code (1 : Nat) (Option.none : Option Jvm.ClassFile.FieldType)) ∈ lw_all := lw_g (lw_at lw_m1 52 rfl) rfl
theorem q148 : (Jvm.Cond.methodLink "TouchShelf$State" (3 : Nat) ({ cls := "java/lang/Object", name := "<init>", desc := "()V" } : Jvm.MethodName)) ∈ lw_all := lw_g (lw_at lw_m1 53 rfl) rfl
theorem q149 : (Jvm.Cond.classLink "TouchShelf$State" (19 : Nat) "java/util/ArrayList") ∈ lw_all := lw_g (lw_at lw_m1 54 rfl) rfl
theorem q151 : (Jvm.Cond.methodLink "TouchShelf$State" (21 : Nat) ({ cls := "java/util/ArrayList", name := "<init>", desc := "(I)V" } : Jvm.MethodName)) ∈ lw_all := lw_g (lw_at lw_m1 56 rfl) rfl
theorem q178 : (Jvm.Cond.fieldLink "TouchShelf$State" (9 : Nat) "TouchShelf$State" "tape" "[B") ∈ lw_all := lw_g (lw_at lw_m1 83 rfl) rfl
theorem q180 : (Jvm.Cond.fieldLink "TouchShelf$State" (40 : Nat) "TouchShelf$State" "taped" "I") ∈ lw_all := lw_g (lw_at lw_m1 85 rfl) rfl
theorem q182 : (Jvm.Cond.fieldLink "TouchShelf$State" (43 : Nat) "TouchShelf$State" "faultKind" "I") ∈ lw_all := lw_g (lw_at lw_m1 87 rfl) rfl
theorem q184 : (Jvm.Cond.fieldLink "TouchShelf$State" (15 : Nat) "TouchShelf$State" "faultPlace" "I") ∈ lw_all := lw_g (lw_at lw_m1 89 rfl) rfl
theorem q186 : (Jvm.Cond.fieldLink "TouchShelf$State" (24 : Nat) "TouchShelf$State" "libraries" "Ljava/util/ArrayList;") ∈ lw_all := lw_g (lw_at lw_m1 91 rfl) rfl
theorem q188 : (Jvm.Cond.fieldLink "TouchShelf$State" (28 : Nat) "TouchShelf$State" "daybooks" "Ljava/util/ArrayList;") ∈ lw_all := lw_g (lw_at lw_m1 93 rfl) rfl
theorem q190 : (Jvm.Cond.fieldLink "TouchShelf$State" (31 : Nat) "TouchShelf$State" "rounds" "Ljava/util/ArrayList;") ∈ lw_all := lw_g (lw_at lw_m1 95 rfl) rfl
theorem q192 : (Jvm.Cond.laysFinal "TouchShelf$State" "TouchShelf$State" "tape" "[B") ∈ lw_all := lw_g (lw_at lw_m1 97 rfl) rfl
theorem q193 : (Jvm.Cond.soleField "TouchShelf$State" "tape") ∈ lw_all := lw_g (lw_at lw_m1 98 rfl) rfl
theorem q194 : (Jvm.Cond.lays "TouchShelf$State" "TouchShelf$State" "taped" "I") ∈ lw_all := lw_g (lw_at lw_m1 99 rfl) rfl
theorem q195 : (Jvm.Cond.soleField "TouchShelf$State" "taped") ∈ lw_all := lw_g (lw_at lw_m1 100 rfl) rfl
theorem q196 : (Jvm.Cond.lays "TouchShelf$State" "TouchShelf$State" "faultKind" "I") ∈ lw_all := lw_g (lw_at lw_m1 101 rfl) rfl
theorem q197 : (Jvm.Cond.soleField "TouchShelf$State" "faultKind") ∈ lw_all := lw_g (lw_at lw_m1 102 rfl) rfl
theorem q198 : (Jvm.Cond.lays "TouchShelf$State" "TouchShelf$State" "faultPlace" "I") ∈ lw_all := lw_g (lw_at lw_m1 103 rfl) rfl
theorem q199 : (Jvm.Cond.soleField "TouchShelf$State" "faultPlace") ∈ lw_all := lw_g (lw_at lw_m1 104 rfl) rfl
theorem q200 : (Jvm.Cond.laysFinal "TouchShelf$State" "TouchShelf$State" "libraries" "Ljava/util/ArrayList;") ∈ lw_all := lw_g (lw_at lw_m1 105 rfl) rfl
theorem q201 : (Jvm.Cond.soleField "TouchShelf$State" "libraries") ∈ lw_all := lw_g (lw_at lw_m1 106 rfl) rfl
theorem q202 : (Jvm.Cond.laysFinal "TouchShelf$State" "TouchShelf$State" "daybooks" "Ljava/util/ArrayList;") ∈ lw_all := lw_g (lw_at lw_m1 107 rfl) rfl
theorem q203 : (Jvm.Cond.soleField "TouchShelf$State" "daybooks") ∈ lw_all := lw_g (lw_at lw_m1 108 rfl) rfl
theorem q204 : (Jvm.Cond.laysFinal "TouchShelf$State" "TouchShelf$State" "rounds" "Ljava/util/ArrayList;") ∈ lw_all := lw_g (lw_at lw_m1 109 rfl) rfl
theorem q205 : (Jvm.Cond.soleField "TouchShelf$State" "rounds") ∈ lw_all := lw_g (lw_at lw_m1 110 rfl) rfl
theorem q206 : (Jvm.Cond.superclass "TouchShelf$State" "java/lang/Object") ∈ lw_all := lw_g (lw_at lw_m1 111 rfl) rfl
theorem q255 : (Jvm.Cond.instanceMethod ({ cls := "TouchShelf$State", name := "many", desc := "(I)I" } : Jvm.MethodName)) ∈ lw_all := lw_g (lw_at lw_m1 160 rfl) rfl
theorem q256 : (Jvm.Cond.selects "TouchShelf$State" ({ cls := "TouchShelf$State", name := "many", desc := "(I)I" } : Jvm.MethodName) ({ cls := "TouchShelf$State", name := "many", desc := "(I)I" } : Jvm.MethodName)) ∈ lw_all := lw_g (lw_at lw_m1 161 rfl) rfl
theorem q257 : (Jvm.Cond.code ({ cls := "TouchShelf$State", name := "many", desc := "(I)I" } : Jvm.MethodName) prog_16_method_3_code (2 : Nat) (Option.some Jvm.ClassFile.FieldType.int)) ∈ lw_all := lw_g (lw_at lw_m1 162 rfl) rfl
theorem q258 : (Jvm.Cond.methodLink "TouchShelf$State" (53 : Nat) ({ cls := "java/util/ArrayList", name := "size", desc := "()I" } : Jvm.MethodName)) ∈ lw_all := lw_g (lw_at lw_m1 163 rfl) rfl
theorem q761 : (Jvm.Cond.selects "TouchShelf$State" ({ cls := "java/lang/Object", name := "getClass", desc := "()Ljava/lang/Class;" } : Jvm.MethodName) ({ cls := "java/lang/Object", name := "getClass", desc := "()Ljava/lang/Class;" } : Jvm.MethodName)) ∈ lw_all := lw_g (lw_at lw_m3 186 rfl) rfl
theorem q1588 : (Jvm.Cond.instanceMethod ({ cls := "TouchShelf$State", name := "be", desc := "(LTouchShelf$State;)V" } : Jvm.MethodName)) ∈ lw_all := lw_g (lw_at lw_m7 53 rfl) rfl
theorem q1589 : (Jvm.Cond.selects "TouchShelf$State" ({ cls := "TouchShelf$State", name := "be", desc := "(LTouchShelf$State;)V" } : Jvm.MethodName) ({ cls := "TouchShelf$State", name := "be", desc := "(LTouchShelf$State;)V" } : Jvm.MethodName)) ∈ lw_all := lw_g (lw_at lw_m7 54 rfl) rfl
theorem q1590 : (Jvm.Cond.code ({ cls := "TouchShelf$State", name := "be", desc := "(LTouchShelf$State;)V" } : Jvm.MethodName) prog_16_method_2_code (2 : Nat) (Option.none : Option Jvm.ClassFile.FieldType)) ∈ lw_all := lw_g (lw_at lw_m7 55 rfl) rfl
theorem q1591 : (Jvm.Cond.methodLink "TouchShelf$State" (34 : Nat) ({ cls := "java/lang/System", name := "arraycopy", desc := "(Ljava/lang/Object;ILjava/lang/Object;II)V" } : Jvm.MethodName)) ∈ lw_all := lw_g (lw_at lw_m7 56 rfl) rfl
theorem q1592 : (Jvm.Cond.methodLink "TouchShelf$State" (46 : Nat) ({ cls := "java/util/ArrayList", name := "clear", desc := "()V" } : Jvm.MethodName)) ∈ lw_all := lw_g (lw_at lw_m7 57 rfl) rfl
theorem q1596 : (Jvm.Cond.methodLink "TouchShelf$State" (49 : Nat) ({ cls := "java/util/ArrayList", name := "addAll", desc := "(Ljava/util/Collection;)Z" } : Jvm.MethodName)) ∈ lw_all := lw_g (lw_at lw_m7 61 rfl) rfl
theorem q2281 : (Jvm.Cond.castable "TouchShelf$State" "java/lang/Object") ∈ lw_tbl := lw_at lw_m10 26 rfl
theorem in_X1 : ∀ w ∈ wsX10, w ∈ lw_all := lw_in wsX10 [192, 194, 196, 198, 200, 202, 204] (by decide +kernel) (by decide +kernel)
theorem q124 : (Jvm.Cond.initialized "TouchShelf$Shelf") ∈ lw_all := lw_g (lw_at lw_m1 29 rfl) rfl
theorem q759 : (Jvm.Cond.selects "TouchShelf$Shelf" ({ cls := "java/lang/Object", name := "getClass", desc := "()Ljava/lang/Class;" } : Jvm.MethodName) ({ cls := "java/lang/Object", name := "getClass", desc := "()Ljava/lang/Class;" } : Jvm.MethodName)) ∈ lw_all := lw_g (lw_at lw_m3 184 rfl) rfl
theorem q813 : (Jvm.Cond.instantiable "TouchShelf$Shelf" (2 : Nat)) ∈ lw_all := lw_g (lw_at lw_m3 238 rfl) rfl
theorem q824 : (Jvm.Cond.instanceMethod ({ cls := "TouchShelf$Shelf", name := "<init>", desc := "([I)V" } : Jvm.MethodName)) ∈ lw_all := lw_g (lw_at lw_m4 9 rfl) rfl
theorem q825 : (Jvm.Cond.code ({ cls := "TouchShelf$Shelf", name := "<init>", desc := "([I)V" } : Jvm.MethodName) prog_14_method_1_code (2 : Nat) (Option.none : Option Jvm.ClassFile.FieldType)) ∈ lw_all := lw_g (lw_at lw_m4 10 rfl) rfl
theorem q826 : (Jvm.Cond.methodLink "TouchShelf$Shelf" (3 : Nat) ({ cls := "java/lang/Object", name := "<init>", desc := "()V" } : Jvm.MethodName)) ∈ lw_all := lw_g (lw_at lw_m4 11 rfl) rfl
theorem q827 : (Jvm.Cond.fieldLink "TouchShelf$Shelf" (15 : Nat) "TouchShelf$Shelf" "mark" "[I") ∈ lw_all := lw_g (lw_at lw_m4 12 rfl) rfl
theorem q832 : (Jvm.Cond.fieldLink "TouchShelf$Shelf" (9 : Nat) "TouchShelf$Shelf" "weight" "I") ∈ lw_all := lw_g (lw_at lw_m4 17 rfl) rfl
theorem q835 : (Jvm.Cond.laysFinal "TouchShelf$Shelf" "TouchShelf$Shelf" "mark" "[I") ∈ lw_all := lw_g (lw_at lw_m4 20 rfl) rfl
theorem q836 : (Jvm.Cond.soleField "TouchShelf$Shelf" "mark") ∈ lw_all := lw_g (lw_at lw_m4 21 rfl) rfl
theorem q837 : (Jvm.Cond.lays "TouchShelf$Shelf" "TouchShelf$Shelf" "weight" "I") ∈ lw_all := lw_g (lw_at lw_m4 22 rfl) rfl
theorem q838 : (Jvm.Cond.soleField "TouchShelf$Shelf" "weight") ∈ lw_all := lw_g (lw_at lw_m4 23 rfl) rfl
theorem q839 : (Jvm.Cond.superclass "TouchShelf$Shelf" "java/lang/Object") ∈ lw_all := lw_g (lw_at lw_m4 24 rfl) rfl
theorem q931 : (Jvm.Cond.instanceMethod ({ cls := "TouchShelf$Shelf", name := "isTablet", desc := "(I)Z" } : Jvm.MethodName)) ∈ lw_all := lw_g (lw_at lw_m4 116 rfl) rfl
theorem q932 : (Jvm.Cond.selects "TouchShelf$Shelf" ({ cls := "TouchShelf$Shelf", name := "isTablet", desc := "(I)Z" } : Jvm.MethodName) ({ cls := "TouchShelf$Shelf", name := "isTablet", desc := "(I)Z" } : Jvm.MethodName)) ∈ lw_all := lw_g (lw_at lw_m4 117 rfl) rfl
theorem q933 : (Jvm.Cond.code ({ cls := "TouchShelf$Shelf", name := "isTablet", desc := "(I)Z" } : Jvm.MethodName) prog_14_method_3_code (2 : Nat) (Option.some Jvm.ClassFile.FieldType.boolean)) ∈ lw_all := lw_g (lw_at lw_m4 118 rfl) rfl
theorem q1068 : (Jvm.Cond.instanceMethod ({ cls := "TouchShelf$Shelf", name := "tablets", desc := "()I" } : Jvm.MethodName)) ∈ lw_all := lw_g (lw_at lw_m5 13 rfl) rfl
theorem q1069 : (Jvm.Cond.selects "TouchShelf$Shelf" ({ cls := "TouchShelf$Shelf", name := "tablets", desc := "()I" } : Jvm.MethodName) ({ cls := "TouchShelf$Shelf", name := "tablets", desc := "()I" } : Jvm.MethodName)) ∈ lw_all := lw_g (lw_at lw_m5 14 rfl) rfl
theorem q1070 : (Jvm.Cond.code ({ cls := "TouchShelf$Shelf", name := "tablets", desc := "()I" } : Jvm.MethodName) prog_14_method_4_code (3 : Nat) (Option.some Jvm.ClassFile.FieldType.int)) ∈ lw_all := lw_g (lw_at lw_m5 15 rfl) rfl
theorem q1071 : (Jvm.Cond.methodLink "TouchShelf$Shelf" (27 : Nat) ({ cls := "TouchShelf$Shelf", name := "isTablet", desc := "(I)Z" } : Jvm.MethodName)) ∈ lw_all := lw_g (lw_at lw_m5 16 rfl) rfl
theorem q1091 : (Jvm.Cond.instanceMethod ({ cls := "TouchShelf$Shelf", name := "turned", desc := "()I" } : Jvm.MethodName)) ∈ lw_all := lw_g (lw_at lw_m5 36 rfl) rfl
theorem q1092 : (Jvm.Cond.selects "TouchShelf$Shelf" ({ cls := "TouchShelf$Shelf", name := "turned", desc := "()I" } : Jvm.MethodName) ({ cls := "TouchShelf$Shelf", name := "turned", desc := "()I" } : Jvm.MethodName)) ∈ lw_all := lw_g (lw_at lw_m5 37 rfl) rfl
theorem q1093 : (Jvm.Cond.code ({ cls := "TouchShelf$Shelf", name := "turned", desc := "()I" } : Jvm.MethodName) prog_14_method_6_code (5 : Nat) (Option.some Jvm.ClassFile.FieldType.int)) ∈ lw_all := lw_g (lw_at lw_m5 38 rfl) rfl
theorem q1094 : (Jvm.Cond.methodLink "TouchShelf$Shelf" (35 : Nat) ({ cls := "TouchShelf$Shelf", name := "row", desc := "()[I" } : Jvm.MethodName)) ∈ lw_all := lw_g (lw_at lw_m5 39 rfl) rfl
theorem q1095 : (Jvm.Cond.instanceMethod ({ cls := "TouchShelf$Shelf", name := "row", desc := "()[I" } : Jvm.MethodName)) ∈ lw_all := lw_g (lw_at lw_m5 40 rfl) rfl
theorem q1096 : (Jvm.Cond.selects "TouchShelf$Shelf" ({ cls := "TouchShelf$Shelf", name := "row", desc := "()[I" } : Jvm.MethodName) ({ cls := "TouchShelf$Shelf", name := "row", desc := "()[I" } : Jvm.MethodName)) ∈ lw_all := lw_g (lw_at lw_m5 41 rfl) rfl
theorem q1097 : (Jvm.Cond.code ({ cls := "TouchShelf$Shelf", name := "row", desc := "()[I" } : Jvm.MethodName) prog_14_method_5_code (4 : Nat) (Option.some (Jvm.ClassFile.FieldType.array Jvm.ClassFile.FieldType.int))) ∈ lw_all := lw_g (lw_at lw_m5 42 rfl) rfl
theorem q1098 : (Jvm.Cond.methodLink "TouchShelf$Shelf" (31 : Nat) ({ cls := "TouchShelf$Shelf", name := "tablets", desc := "()I" } : Jvm.MethodName)) ∈ lw_all := lw_g (lw_at lw_m5 43 rfl) rfl
theorem q1206 : (Jvm.Cond.instanceMethod ({ cls := "TouchShelf$Shelf", name := "longest", desc := "()I" } : Jvm.MethodName)) ∈ lw_all := lw_g (lw_at lw_m5 151 rfl) rfl
theorem q1207 : (Jvm.Cond.selects "TouchShelf$Shelf" ({ cls := "TouchShelf$Shelf", name := "longest", desc := "()I" } : Jvm.MethodName) ({ cls := "TouchShelf$Shelf", name := "longest", desc := "()I" } : Jvm.MethodName)) ∈ lw_all := lw_g (lw_at lw_m5 152 rfl) rfl
theorem q1208 : (Jvm.Cond.code ({ cls := "TouchShelf$Shelf", name := "longest", desc := "()I" } : Jvm.MethodName) prog_14_method_7_code (6 : Nat) (Option.some Jvm.ClassFile.FieldType.int)) ∈ lw_all := lw_g (lw_at lw_m5 153 rfl) rfl
theorem q1209 : (Jvm.Cond.methodLink "TouchShelf$Shelf" (39 : Nat) ({ cls := "java/lang/Math", name := "max", desc := "(II)I" } : Jvm.MethodName)) ∈ lw_all := lw_g (lw_at lw_m5 154 rfl) rfl
theorem q1307 : (Jvm.Cond.instanceMethod ({ cls := "TouchShelf$Shelf", name := "halving", desc := "(I)I" } : Jvm.MethodName)) ∈ lw_all := lw_g (lw_at lw_m6 12 rfl) rfl
theorem q1308 : (Jvm.Cond.selects "TouchShelf$Shelf" ({ cls := "TouchShelf$Shelf", name := "halving", desc := "(I)I" } : Jvm.MethodName) ({ cls := "TouchShelf$Shelf", name := "halving", desc := "(I)I" } : Jvm.MethodName)) ∈ lw_all := lw_g (lw_at lw_m6 13 rfl) rfl
theorem q1309 : (Jvm.Cond.code ({ cls := "TouchShelf$Shelf", name := "halving", desc := "(I)I" } : Jvm.MethodName) prog_14_method_9_code (7 : Nat) (Option.some Jvm.ClassFile.FieldType.int)) ∈ lw_all := lw_g (lw_at lw_m6 14 rfl) rfl
theorem q1315 : (Jvm.Cond.instanceMethod ({ cls := "TouchShelf$Shelf", name := "hole", desc := "()I" } : Jvm.MethodName)) ∈ lw_all := lw_g (lw_at lw_m6 20 rfl) rfl
theorem q1316 : (Jvm.Cond.selects "TouchShelf$Shelf" ({ cls := "TouchShelf$Shelf", name := "hole", desc := "()I" } : Jvm.MethodName) ({ cls := "TouchShelf$Shelf", name := "hole", desc := "()I" } : Jvm.MethodName)) ∈ lw_all := lw_g (lw_at lw_m6 21 rfl) rfl
theorem q1317 : (Jvm.Cond.code ({ cls := "TouchShelf$Shelf", name := "hole", desc := "()I" } : Jvm.MethodName) prog_14_method_8_code (4 : Nat) (Option.some Jvm.ClassFile.FieldType.int)) ∈ lw_all := lw_g (lw_at lw_m6 22 rfl) rfl
theorem q1346 : (Jvm.Cond.instanceMethod ({ cls := "TouchShelf$Shelf", name := "copy", desc := "()LTouchShelf$Shelf;" } : Jvm.MethodName)) ∈ lw_all := lw_g (lw_at lw_m6 51 rfl) rfl
theorem q1347 : (Jvm.Cond.selects "TouchShelf$Shelf" ({ cls := "TouchShelf$Shelf", name := "copy", desc := "()LTouchShelf$Shelf;" } : Jvm.MethodName) ({ cls := "TouchShelf$Shelf", name := "copy", desc := "()LTouchShelf$Shelf;" } : Jvm.MethodName)) ∈ lw_all := lw_g (lw_at lw_m6 52 rfl) rfl
theorem q1348 : (Jvm.Cond.code ({ cls := "TouchShelf$Shelf", name := "copy", desc := "()LTouchShelf$Shelf;" } : Jvm.MethodName) prog_14_method_2_code (2 : Nat) (Option.some (Jvm.ClassFile.FieldType.object "TouchShelf$Shelf"))) ∈ lw_all := lw_g (lw_at lw_m6 53 rfl) rfl
theorem q1349 : (Jvm.Cond.classLink "TouchShelf$Shelf" (10 : Nat) "TouchShelf$Shelf") ∈ lw_all := lw_g (lw_at lw_m6 54 rfl) rfl
theorem q1350 : (Jvm.Cond.methodLink "TouchShelf$Shelf" (19 : Nat) ({ cls := "[I", name := "clone", desc := "()Ljava/lang/Object;" } : Jvm.MethodName)) ∈ lw_all := lw_g (lw_at lw_m6 55 rfl) rfl
theorem q1351 : (Jvm.Cond.classLink "TouchShelf$Shelf" (20 : Nat) "[I") ∈ lw_all := lw_g (lw_at lw_m6 56 rfl) rfl
theorem q1352 : (Jvm.Cond.methodLink "TouchShelf$Shelf" (24 : Nat) ({ cls := "TouchShelf$Shelf", name := "<init>", desc := "([I)V" } : Jvm.MethodName)) ∈ lw_all := lw_g (lw_at lw_m6 57 rfl) rfl
theorem q2293 : (Jvm.Cond.castable "TouchShelf$Shelf" "java/lang/Object") ∈ lw_tbl := lw_at lw_m10 38 rfl
theorem in_X10 : ∀ w ∈ wsX100, w ∈ lw_all := lw_in wsX100 [835, 837] (by decide +kernel) (by decide +kernel)
theorem q129 : (Jvm.Cond.initialized "TouchShelf$RoundReader") ∈ lw_all := lw_g (lw_at lw_m1 34 rfl) rfl
theorem q284 : (Jvm.Cond.selects "TouchShelf$RoundReader" ({ cls := "TouchShelf$Reader", name := "step", desc := "()V" } : Jvm.MethodName) ({ cls := "TouchShelf$Reader", name := "step", desc := "()V" } : Jvm.MethodName)) ∈ lw_all := lw_g (lw_at lw_m1 189 rfl) rfl
theorem q588 : (Jvm.Cond.selects "TouchShelf$RoundReader" ({ cls := "TouchShelf$Reader", name := "takes", desc := "(Ljava/lang/String;)Z" } : Jvm.MethodName) ({ cls := "TouchShelf$Reader", name := "takes", desc := "(Ljava/lang/String;)Z" } : Jvm.MethodName)) ∈ lw_all := lw_g (lw_at lw_m3 13 rfl) rfl
theorem q757 : (Jvm.Cond.selects "TouchShelf$RoundReader" ({ cls := "java/lang/Object", name := "getClass", desc := "()Ljava/lang/Class;" } : Jvm.MethodName) ({ cls := "java/lang/Object", name := "getClass", desc := "()Ljava/lang/Class;" } : Jvm.MethodName)) ∈ lw_all := lw_g (lw_at lw_m3 182 rfl) rfl
theorem q866 : (Jvm.Cond.selects "TouchShelf$RoundReader" ({ cls := "TouchShelf$Reader", name := "line", desc := "()V" } : Jvm.MethodName) ({ cls := "TouchShelf$RoundReader", name := "line", desc := "()V" } : Jvm.MethodName)) ∈ lw_all := lw_g (lw_at lw_m4 51 rfl) rfl
theorem q867 : (Jvm.Cond.instanceMethod ({ cls := "TouchShelf$RoundReader", name := "line", desc := "()V" } : Jvm.MethodName)) ∈ lw_all := lw_g (lw_at lw_m4 52 rfl) rfl
theorem q868 : (Jvm.Cond.code ({ cls := "TouchShelf$RoundReader", name := "line", desc := "()V" } : Jvm.MethodName) prog_12_method_4_code (4 : Nat) (Option.none : Option Jvm.ClassFile.FieldType)) ∈ lw_all := lw_g (lw_at lw_m4 53 rfl) rfl
theorem q869 : (Jvm.Cond.methodLink "TouchShelf$RoundReader" (33 : Nat) ({ cls := "TouchShelf$RoundReader", name := "here", desc := "()I" } : Jvm.MethodName)) ∈ lw_all := lw_g (lw_at lw_m4 54 rfl) rfl
theorem q870 : (Jvm.Cond.sameMethod "TouchShelf$RoundReader" "TouchShelf$Reader" "here" "()I") ∈ lw_all := lw_g (lw_at lw_m4 55 rfl) rfl
theorem q871 : (Jvm.Cond.selects "TouchShelf$RoundReader" ({ cls := "TouchShelf$RoundReader", name := "here", desc := "()I" } : Jvm.MethodName) ({ cls := "TouchShelf$Reader", name := "here", desc := "()I" } : Jvm.MethodName)) ∈ lw_all := lw_g (lw_at lw_m4 56 rfl) rfl
theorem q872 : (Jvm.Cond.stringRef "TouchShelf$RoundReader" (37 : Nat) "reader") ∈ lw_tbl := lw_at lw_m4 57 rfl
theorem q873 : (Jvm.Cond.methodLink "TouchShelf$RoundReader" (39 : Nat) ({ cls := "TouchShelf$RoundReader", name := "takes", desc := "(Ljava/lang/String;)Z" } : Jvm.MethodName)) ∈ lw_all := lw_g (lw_at lw_m4 58 rfl) rfl
theorem q874 : (Jvm.Cond.sameMethod "TouchShelf$RoundReader" "TouchShelf$Reader" "takes" "(Ljava/lang/String;)Z") ∈ lw_all := lw_g (lw_at lw_m4 59 rfl) rfl
theorem q875 : (Jvm.Cond.selects "TouchShelf$RoundReader" ({ cls := "TouchShelf$RoundReader", name := "takes", desc := "(Ljava/lang/String;)Z" } : Jvm.MethodName) ({ cls := "TouchShelf$Reader", name := "takes", desc := "(Ljava/lang/String;)Z" } : Jvm.MethodName)) ∈ lw_all := lw_g (lw_at lw_m4 60 rfl) rfl
theorem q876 : (Jvm.Cond.stringRef "TouchShelf$RoundReader" (43 : Nat) "ask") ∈ lw_tbl := lw_at lw_m4 61 rfl
theorem q877 : (Jvm.Cond.methodLink "TouchShelf$RoundReader" (45 : Nat) ({ cls := "TouchShelf$RoundReader", name := "wrong", desc := "()LTouchShelf$Fault;" } : Jvm.MethodName)) ∈ lw_all := lw_g (lw_at lw_m4 62 rfl) rfl
theorem q878 : (Jvm.Cond.sameMethod "TouchShelf$RoundReader" "TouchShelf$Reader" "wrong" "()LTouchShelf$Fault;") ∈ lw_all := lw_g (lw_at lw_m4 63 rfl) rfl
theorem q879 : (Jvm.Cond.selects "TouchShelf$RoundReader" ({ cls := "TouchShelf$RoundReader", name := "wrong", desc := "()LTouchShelf$Fault;" } : Jvm.MethodName) ({ cls := "TouchShelf$Reader", name := "wrong", desc := "()LTouchShelf$Fault;" } : Jvm.MethodName)) ∈ lw_all := lw_g (lw_at lw_m4 64 rfl) rfl
theorem q880 : (Jvm.Cond.methodLink "TouchShelf$RoundReader" (52 : Nat) ({ cls := "java/util/ArrayList", name := "size", desc := "()I" } : Jvm.MethodName)) ∈ lw_all := lw_g (lw_at lw_m4 65 rfl) rfl
theorem q881 : (Jvm.Cond.methodLink "TouchShelf$RoundReader" (55 : Nat) ({ cls := "TouchShelf$RoundReader", name := "also", desc := "(II)V" } : Jvm.MethodName)) ∈ lw_all := lw_g (lw_at lw_m4 66 rfl) rfl
theorem q882 : (Jvm.Cond.sameMethod "TouchShelf$RoundReader" "TouchShelf$Reader" "also" "(II)V") ∈ lw_all := lw_g (lw_at lw_m4 67 rfl) rfl
theorem q883 : (Jvm.Cond.selects "TouchShelf$RoundReader" ({ cls := "TouchShelf$RoundReader", name := "also", desc := "(II)V" } : Jvm.MethodName) ({ cls := "TouchShelf$Reader", name := "also", desc := "(II)V" } : Jvm.MethodName)) ∈ lw_all := lw_g (lw_at lw_m4 68 rfl) rfl
theorem q884 : (Jvm.Cond.methodLink "TouchShelf$RoundReader" (59 : Nat) ({ cls := "TouchShelf$RoundReader", name := "number", desc := "(II)I" } : Jvm.MethodName)) ∈ lw_all := lw_g (lw_at lw_m4 69 rfl) rfl
theorem q885 : (Jvm.Cond.sameMethod "TouchShelf$RoundReader" "TouchShelf$Reader" "number" "(II)I") ∈ lw_all := lw_g (lw_at lw_m4 70 rfl) rfl
theorem q886 : (Jvm.Cond.selects "TouchShelf$RoundReader" ({ cls := "TouchShelf$RoundReader", name := "number", desc := "(II)I" } : Jvm.MethodName) ({ cls := "TouchShelf$Reader", name := "number", desc := "(II)I" } : Jvm.MethodName)) ∈ lw_all := lw_g (lw_at lw_m4 71 rfl) rfl
theorem q887 : (Jvm.Cond.methodLink "TouchShelf$RoundReader" (63 : Nat) ({ cls := "java/lang/Integer", name := "valueOf", desc := "(I)Ljava/lang/Integer;" } : Jvm.MethodName)) ∈ lw_all := lw_g (lw_at lw_m4 72 rfl) rfl
theorem q907 : (Jvm.Cond.methodLink "TouchShelf$RoundReader" (69 : Nat) ({ cls := "java/util/ArrayList", name := "add", desc := "(Ljava/lang/Object;)Z" } : Jvm.MethodName)) ∈ lw_all := lw_g (lw_at lw_m4 92 rfl) rfl
theorem q913 : (Jvm.Cond.selects "TouchShelf$RoundReader" ({ cls := "TouchShelf$Reader", name := "ends", desc := "()V" } : Jvm.MethodName) ({ cls := "TouchShelf$Reader", name := "ends", desc := "()V" } : Jvm.MethodName)) ∈ lw_all := lw_g (lw_at lw_m4 98 rfl) rfl
theorem q938 : (Jvm.Cond.selects "TouchShelf$RoundReader" ({ cls := "TouchShelf$Reader", name := "isWhole", desc := "()Z" } : Jvm.MethodName) ({ cls := "TouchShelf$RoundReader", name := "isWhole", desc := "()Z" } : Jvm.MethodName)) ∈ lw_all := lw_g (lw_at lw_m4 123 rfl) rfl
theorem q939 : (Jvm.Cond.instanceMethod ({ cls := "TouchShelf$RoundReader", name := "isWhole", desc := "()Z" } : Jvm.MethodName)) ∈ lw_all := lw_g (lw_at lw_m4 124 rfl) rfl
theorem q940 : (Jvm.Cond.code ({ cls := "TouchShelf$RoundReader", name := "isWhole", desc := "()Z" } : Jvm.MethodName) prog_12_method_3_code (1 : Nat) (Option.some Jvm.ClassFile.FieldType.boolean)) ∈ lw_all := lw_g (lw_at lw_m4 125 rfl) rfl
theorem q941 : (Jvm.Cond.methodLink "TouchShelf$RoundReader" (27 : Nat) ({ cls := "java/util/ArrayList", name := "isEmpty", desc := "()Z" } : Jvm.MethodName)) ∈ lw_all := lw_g (lw_at lw_m4 126 rfl) rfl
theorem q984 : (Jvm.Cond.instantiable "TouchShelf$RoundReader" (9 : Nat)) ∈ lw_all := lw_g (lw_at lw_m4 169 rfl) rfl
theorem q986 : (Jvm.Cond.instanceMethod ({ cls := "TouchShelf$RoundReader", name := "<init>", desc := "([BI)V" } : Jvm.MethodName)) ∈ lw_all := lw_g (lw_at lw_m4 171 rfl) rfl
theorem q987 : (Jvm.Cond.code ({ cls := "TouchShelf$RoundReader", name := "<init>", desc := "([BI)V" } : Jvm.MethodName) prog_12_method_1_code (3 : Nat) (Option.none : Option Jvm.ClassFile.FieldType)) ∈ lw_all := lw_g (lw_at lw_m4 172 rfl) rfl
theorem q988 : (Jvm.Cond.methodLink "TouchShelf$RoundReader" (3 : Nat) ({ cls := "TouchShelf$Reader", name := "<init>", desc := "([BI)V" } : Jvm.MethodName)) ∈ lw_all := lw_g (lw_at lw_m4 173 rfl) rfl
theorem q989 : (Jvm.Cond.classLink "TouchShelf$RoundReader" (9 : Nat) "TouchShelf$Round") ∈ lw_all := lw_g (lw_at lw_m4 174 rfl) rfl
theorem q991 : (Jvm.Cond.methodLinkNest "TouchShelf$RoundReader" (11 : Nat) ({ cls := "TouchShelf$Round", name := "<init>", desc := "()V" } : Jvm.MethodName) "TouchShelf") ∈ lw_tbl := lw_at lw_m4 176 rfl
theorem q998 : (Jvm.Cond.fieldLinkNest "TouchShelf$RoundReader" (23 : Nat) "TouchShelf$Round" "readers" "Ljava/util/ArrayList;" "TouchShelf") ∈ lw_tbl := lw_at lw_m4 183 rfl
theorem q1001 : (Jvm.Cond.fieldLinkNest "TouchShelf$RoundReader" (49 : Nat) "TouchShelf$Round" "asks" "Ljava/util/ArrayList;" "TouchShelf") ∈ lw_tbl := lw_at lw_m4 186 rfl
theorem q1011 : (Jvm.Cond.fieldLink "TouchShelf$RoundReader" (14 : Nat) "TouchShelf$RoundReader" "round" "LTouchShelf$Round;") ∈ lw_all := lw_g (lw_at lw_m4 196 rfl) rfl
theorem q1012 : (Jvm.Cond.laysFinal "TouchShelf$RoundReader" "TouchShelf$RoundReader" "round" "LTouchShelf$Round;") ∈ lw_all := lw_g (lw_at lw_m4 197 rfl) rfl
theorem q1013 : (Jvm.Cond.soleField "TouchShelf$RoundReader" "round") ∈ lw_all := lw_g (lw_at lw_m4 198 rfl) rfl
theorem q1014 : (Jvm.Cond.laysFinal "TouchShelf$RoundReader" "TouchShelf$Reader" "tape" "[B") ∈ lw_all := lw_g (lw_at lw_m4 199 rfl) rfl
theorem q1015 : (Jvm.Cond.laysFinal "TouchShelf$RoundReader" "TouchShelf$Reader" "size" "I") ∈ lw_all := lw_g (lw_at lw_m4 200 rfl) rfl
theorem q1016 : (Jvm.Cond.lays "TouchShelf$RoundReader" "TouchShelf$Reader" "next" "I") ∈ lw_all := lw_g (lw_at lw_m4 201 rfl) rfl
theorem q1017 : (Jvm.Cond.lays "TouchShelf$RoundReader" "TouchShelf$Reader" "place" "I") ∈ lw_all := lw_g (lw_at lw_m4 202 rfl) rfl
theorem q1018 : (Jvm.Cond.lays "TouchShelf$RoundReader" "TouchShelf$Reader" "value" "I") ∈ lw_all := lw_g (lw_at lw_m4 203 rfl) rfl
theorem q1019 : (Jvm.Cond.lays "TouchShelf$RoundReader" "TouchShelf$Reader" "token" "LTouchShelf$Token;") ∈ lw_all := lw_g (lw_at lw_m4 204 rfl) rfl
theorem q1020 : (Jvm.Cond.lays "TouchShelf$RoundReader" "TouchShelf$Reader" "text" "Ljava/lang/String;") ∈ lw_all := lw_g (lw_at lw_m4 205 rfl) rfl
theorem q1021 : (Jvm.Cond.lays "TouchShelf$RoundReader" "TouchShelf$Reader" "also" "LTouchShelf$Fault;") ∈ lw_all := lw_g (lw_at lw_m4 206 rfl) rfl
theorem q1022 : (Jvm.Cond.superclass "TouchShelf$RoundReader" "TouchShelf$Reader") ∈ lw_all := lw_g (lw_at lw_m4 207 rfl) rfl
theorem q1024 : (Jvm.Cond.instanceMethod ({ cls := "TouchShelf$RoundReader", name := "read", desc := "()LTouchShelf$Round;" } : Jvm.MethodName)) ∈ lw_all := lw_g (lw_at lw_m4 209 rfl) rfl
theorem q1025 : (Jvm.Cond.selects "TouchShelf$RoundReader" ({ cls := "TouchShelf$RoundReader", name := "read", desc := "()LTouchShelf$Round;" } : Jvm.MethodName) ({ cls := "TouchShelf$RoundReader", name := "read", desc := "()LTouchShelf$Round;" } : Jvm.MethodName)) ∈ lw_all := lw_g (lw_at lw_m4 210 rfl) rfl
theorem q1026 : (Jvm.Cond.code ({ cls := "TouchShelf$RoundReader", name := "read", desc := "()LTouchShelf$Round;" } : Jvm.MethodName) prog_12_method_2_code (1 : Nat) (Option.some (Jvm.ClassFile.FieldType.object "TouchShelf$Round"))) ∈ lw_all := lw_g (lw_at lw_m4 211 rfl) rfl
theorem q1027 : (Jvm.Cond.methodLink "TouchShelf$RoundReader" (20 : Nat) ({ cls := "TouchShelf$RoundReader", name := "lines", desc := "()V" } : Jvm.MethodName)) ∈ lw_all := lw_g (lw_at lw_m4 212 rfl) rfl
theorem q1028 : (Jvm.Cond.sameMethod "TouchShelf$RoundReader" "TouchShelf$Reader" "lines" "()V") ∈ lw_all := lw_g (lw_at lw_m4 213 rfl) rfl
theorem q1029 : (Jvm.Cond.selects "TouchShelf$RoundReader" ({ cls := "TouchShelf$RoundReader", name := "lines", desc := "()V" } : Jvm.MethodName) ({ cls := "TouchShelf$Reader", name := "lines", desc := "()V" } : Jvm.MethodName)) ∈ lw_all := lw_g (lw_at lw_m4 214 rfl) rfl
theorem q2271 : (Jvm.Cond.selects "TouchShelf$RoundReader" ({ cls := "TouchShelf$Reader", name := "wrong", desc := "()LTouchShelf$Fault;" } : Jvm.MethodName) ({ cls := "TouchShelf$Reader", name := "wrong", desc := "()LTouchShelf$Fault;" } : Jvm.MethodName)) ∈ lw_all := lw_g (lw_at lw_m10 16 rfl) rfl
theorem q2275 : (Jvm.Cond.selects "TouchShelf$RoundReader" ({ cls := "TouchShelf$Reader", name := "also", desc := "(II)V" } : Jvm.MethodName) ({ cls := "TouchShelf$Reader", name := "also", desc := "(II)V" } : Jvm.MethodName)) ∈ lw_all := lw_g (lw_at lw_m10 20 rfl) rfl
theorem q2279 : (Jvm.Cond.selects "TouchShelf$RoundReader" ({ cls := "TouchShelf$Reader", name := "number", desc := "(II)I" } : Jvm.MethodName) ({ cls := "TouchShelf$Reader", name := "number", desc := "(II)I" } : Jvm.MethodName)) ∈ lw_all := lw_g (lw_at lw_m10 24 rfl) rfl
theorem q2295 : (Jvm.Cond.castable "TouchShelf$RoundReader" "java/lang/Object") ∈ lw_tbl := lw_at lw_m10 40 rfl
theorem in_X11 : ∀ w ∈ wsX110, w ∈ lw_all := lw_in wsX110 [1014, 1015, 1016, 1017, 1018, 1019, 1020, 1021, 1012] (by decide +kernel) (by decide +kernel)
theorem q130 : (Jvm.Cond.initialized "TouchShelf$Round") ∈ lw_all := lw_g (lw_at lw_m1 35 rfl) rfl
theorem q756 : (Jvm.Cond.selects "TouchShelf$Round" ({ cls := "java/lang/Object", name := "getClass", desc := "()Ljava/lang/Class;" } : Jvm.MethodName) ({ cls := "java/lang/Object", name := "getClass", desc := "()Ljava/lang/Class;" } : Jvm.MethodName)) ∈ lw_all := lw_g (lw_at lw_m3 181 rfl) rfl
theorem q990 : (Jvm.Cond.instantiable "TouchShelf$Round" (3 : Nat)) ∈ lw_all := lw_g (lw_at lw_m4 175 rfl) rfl
theorem q992 : (Jvm.Cond.instanceMethod ({ cls := "TouchShelf$Round", name := "<init>", desc := "()V" } : Jvm.MethodName)) ∈ lw_all := lw_g (lw_at lw_m4 177 rfl) rfl
theorem q993 : (Jvm.Cond.code ({ cls := "TouchShelf$Round", name := "<init>", desc := "()V" } : Jvm.MethodName) prog_11_method_1_code (1 : Nat) (Option.none : Option Jvm.ClassFile.FieldType)) ∈ lw_all := lw_g (lw_at lw_m4 178 rfl) rfl
theorem q994 : (Jvm.Cond.methodLink "TouchShelf$Round" (3 : Nat) ({ cls := "java/lang/Object", name := "<init>", desc := "()V" } : Jvm.MethodName)) ∈ lw_all := lw_g (lw_at lw_m4 179 rfl) rfl
theorem q995 : (Jvm.Cond.classLink "TouchShelf$Round" (9 : Nat) "java/util/ArrayList") ∈ lw_all := lw_g (lw_at lw_m4 180 rfl) rfl
theorem q996 : (Jvm.Cond.methodLink "TouchShelf$Round" (11 : Nat) ({ cls := "java/util/ArrayList", name := "<init>", desc := "(I)V" } : Jvm.MethodName)) ∈ lw_all := lw_g (lw_at lw_m4 181 rfl) rfl
theorem q997 : (Jvm.Cond.fieldLink "TouchShelf$Round" (14 : Nat) "TouchShelf$Round" "readers" "Ljava/util/ArrayList;") ∈ lw_all := lw_g (lw_at lw_m4 182 rfl) rfl
theorem q1000 : (Jvm.Cond.fieldLink "TouchShelf$Round" (20 : Nat) "TouchShelf$Round" "asks" "Ljava/util/ArrayList;") ∈ lw_all := lw_g (lw_at lw_m4 185 rfl) rfl
theorem q1003 : (Jvm.Cond.fieldLink "TouchShelf$Round" (40 : Nat) "TouchShelf$Round" "least" "[[I") ∈ lw_all := lw_g (lw_at lw_m4 188 rfl) rfl
theorem q1004 : (Jvm.Cond.laysFinal "TouchShelf$Round" "TouchShelf$Round" "readers" "Ljava/util/ArrayList;") ∈ lw_all := lw_g (lw_at lw_m4 189 rfl) rfl
theorem q1005 : (Jvm.Cond.soleField "TouchShelf$Round" "readers") ∈ lw_all := lw_g (lw_at lw_m4 190 rfl) rfl
theorem q1006 : (Jvm.Cond.laysFinal "TouchShelf$Round" "TouchShelf$Round" "asks" "Ljava/util/ArrayList;") ∈ lw_all := lw_g (lw_at lw_m4 191 rfl) rfl
theorem q1007 : (Jvm.Cond.soleField "TouchShelf$Round" "asks") ∈ lw_all := lw_g (lw_at lw_m4 192 rfl) rfl
theorem q1008 : (Jvm.Cond.lays "TouchShelf$Round" "TouchShelf$Round" "least" "[[I") ∈ lw_all := lw_g (lw_at lw_m4 193 rfl) rfl
theorem q1009 : (Jvm.Cond.soleField "TouchShelf$Round" "least") ∈ lw_all := lw_g (lw_at lw_m4 194 rfl) rfl
theorem q1010 : (Jvm.Cond.superclass "TouchShelf$Round" "java/lang/Object") ∈ lw_all := lw_g (lw_at lw_m4 195 rfl) rfl
theorem q1518 : (Jvm.Cond.instanceMethod ({ cls := "TouchShelf$Round", name := "who", desc := "(I)I" } : Jvm.MethodName)) ∈ lw_all := lw_g (lw_at lw_m6 223 rfl) rfl
theorem q1519 : (Jvm.Cond.selects "TouchShelf$Round" ({ cls := "TouchShelf$Round", name := "who", desc := "(I)I" } : Jvm.MethodName) ({ cls := "TouchShelf$Round", name := "who", desc := "(I)I" } : Jvm.MethodName)) ∈ lw_all := lw_g (lw_at lw_m6 224 rfl) rfl
theorem q1520 : (Jvm.Cond.code ({ cls := "TouchShelf$Round", name := "who", desc := "(I)I" } : Jvm.MethodName) prog_11_method_8_code (6 : Nat) (Option.some Jvm.ClassFile.FieldType.int)) ∈ lw_all := lw_g (lw_at lw_m6 225 rfl) rfl
theorem q1521 : (Jvm.Cond.methodLink "TouchShelf$Round" (64 : Nat) ({ cls := "TouchShelf$Round", name := "begins", desc := "()V" } : Jvm.MethodName)) ∈ lw_all := lw_g (lw_at lw_m6 226 rfl) rfl
theorem q1522 : (Jvm.Cond.privateMethod ({ cls := "TouchShelf$Round", name := "begins", desc := "()V" } : Jvm.MethodName)) ∈ lw_tbl := lw_at lw_m6 227 rfl
theorem q1523 : (Jvm.Cond.instanceMethod ({ cls := "TouchShelf$Round", name := "begins", desc := "()V" } : Jvm.MethodName)) ∈ lw_all := lw_g (lw_at lw_m6 228 rfl) rfl
theorem q1524 : (Jvm.Cond.code ({ cls := "TouchShelf$Round", name := "begins", desc := "()V" } : Jvm.MethodName) prog_11_method_6_code (1 : Nat) (Option.none : Option Jvm.ClassFile.FieldType)) ∈ lw_all := lw_g (lw_at lw_m6 229 rfl) rfl
theorem q1525 : (Jvm.Cond.methodLink "TouchShelf$Round" (23 : Nat) ({ cls := "java/util/ArrayList", name := "size", desc := "()I" } : Jvm.MethodName)) ∈ lw_all := lw_g (lw_at lw_m6 230 rfl) rfl
theorem q1526 : (Jvm.Cond.classLink "TouchShelf$Round" (63 : Nat) "[[I") ∈ lw_all := lw_g (lw_at lw_m6 231 rfl) rfl
theorem q1527 : (Jvm.Cond.methodLink "TouchShelf$Round" (67 : Nat) ({ cls := "TouchShelf$Round", name := "starts", desc := "()[I" } : Jvm.MethodName)) ∈ lw_all := lw_g (lw_at lw_m6 232 rfl) rfl
theorem q1528 : (Jvm.Cond.privateMethod ({ cls := "TouchShelf$Round", name := "starts", desc := "()[I" } : Jvm.MethodName)) ∈ lw_tbl := lw_at lw_m6 233 rfl
theorem q1529 : (Jvm.Cond.instanceMethod ({ cls := "TouchShelf$Round", name := "starts", desc := "()[I" } : Jvm.MethodName)) ∈ lw_all := lw_g (lw_at lw_m6 234 rfl) rfl
theorem q1530 : (Jvm.Cond.code ({ cls := "TouchShelf$Round", name := "starts", desc := "()[I" } : Jvm.MethodName) prog_11_method_3_code (3 : Nat) (Option.some (Jvm.ClassFile.FieldType.array Jvm.ClassFile.FieldType.int))) ∈ lw_all := lw_g (lw_at lw_m6 235 rfl) rfl
theorem q1531 : (Jvm.Cond.methodLink "TouchShelf$Round" (27 : Nat) ({ cls := "java/util/ArrayList", name := "get", desc := "(I)Ljava/lang/Object;" } : Jvm.MethodName)) ∈ lw_all := lw_g (lw_at lw_m6 236 rfl) rfl
theorem q1532 : (Jvm.Cond.classLink "TouchShelf$Round" (31 : Nat) "java/lang/Integer") ∈ lw_all := lw_g (lw_at lw_m6 237 rfl) rfl
theorem q1533 : (Jvm.Cond.methodLink "TouchShelf$Round" (33 : Nat) ({ cls := "java/lang/Integer", name := "intValue", desc := "()I" } : Jvm.MethodName)) ∈ lw_all := lw_g (lw_at lw_m6 238 rfl) rfl
theorem q1534 : (Jvm.Cond.methodLink "TouchShelf$Round" (59 : Nat) ({ cls := "TouchShelf$Round", name := "steps", desc := "(I[I)I" } : Jvm.MethodName)) ∈ lw_all := lw_g (lw_at lw_m6 239 rfl) rfl
theorem q1535 : (Jvm.Cond.privateMethod ({ cls := "TouchShelf$Round", name := "steps", desc := "(I[I)I" } : Jvm.MethodName)) ∈ lw_tbl := lw_at lw_m7 0 rfl
theorem q1536 : (Jvm.Cond.instanceMethod ({ cls := "TouchShelf$Round", name := "steps", desc := "(I[I)I" } : Jvm.MethodName)) ∈ lw_all := lw_g (lw_at lw_m7 1 rfl) rfl
theorem q1537 : (Jvm.Cond.code ({ cls := "TouchShelf$Round", name := "steps", desc := "(I[I)I" } : Jvm.MethodName) prog_11_method_4_code (6 : Nat) (Option.some Jvm.ClassFile.FieldType.int)) ∈ lw_all := lw_g (lw_at lw_m7 2 rfl) rfl
theorem q1538 : (Jvm.Cond.methodLink "TouchShelf$Round" (36 : Nat) ({ cls := "TouchShelf$Round", name := "index", desc := "([I)I" } : Jvm.MethodName)) ∈ lw_all := lw_g (lw_at lw_m7 3 rfl) rfl
theorem q1539 : (Jvm.Cond.privateMethod ({ cls := "TouchShelf$Round", name := "index", desc := "([I)I" } : Jvm.MethodName)) ∈ lw_tbl := lw_at lw_m7 4 rfl
theorem q1540 : (Jvm.Cond.instanceMethod ({ cls := "TouchShelf$Round", name := "index", desc := "([I)I" } : Jvm.MethodName)) ∈ lw_all := lw_g (lw_at lw_m7 5 rfl) rfl
theorem q1541 : (Jvm.Cond.code ({ cls := "TouchShelf$Round", name := "index", desc := "([I)I" } : Jvm.MethodName) prog_11_method_2_code (4 : Nat) (Option.some Jvm.ClassFile.FieldType.int)) ∈ lw_all := lw_g (lw_at lw_m7 6 rfl) rfl
theorem q1542 : (Jvm.Cond.constant "TouchShelf$Round" (44 : Nat) (1000000 : Int32)) ∈ lw_all := lw_g (lw_at lw_m7 7 rfl) rfl
theorem q1543 : (Jvm.Cond.methodLink "TouchShelf$Round" (45 : Nat) ({ cls := "TouchShelf$Round", name := "by", desc := "(I[II)I" } : Jvm.MethodName)) ∈ lw_all := lw_g (lw_at lw_m7 8 rfl) rfl
theorem q1544 : (Jvm.Cond.privateMethod ({ cls := "TouchShelf$Round", name := "by", desc := "(I[II)I" } : Jvm.MethodName)) ∈ lw_tbl := lw_at lw_m7 9 rfl
theorem q1545 : (Jvm.Cond.instanceMethod ({ cls := "TouchShelf$Round", name := "by", desc := "(I[II)I" } : Jvm.MethodName)) ∈ lw_all := lw_g (lw_at lw_m7 10 rfl) rfl
theorem q1546 : (Jvm.Cond.code ({ cls := "TouchShelf$Round", name := "by", desc := "(I[II)I" } : Jvm.MethodName) prog_11_method_5_code (6 : Nat) (Option.some Jvm.ClassFile.FieldType.int)) ∈ lw_all := lw_g (lw_at lw_m7 11 rfl) rfl
theorem q1547 : (Jvm.Cond.methodLink "TouchShelf$Round" (55 : Nat) ({ cls := "java/lang/Math", name := "abs", desc := "(I)I" } : Jvm.MethodName)) ∈ lw_all := lw_g (lw_at lw_m7 12 rfl) rfl
theorem q1548 : (Jvm.Cond.methodLink "TouchShelf$Round" (49 : Nat) ({ cls := "java/lang/Math", name := "min", desc := "(II)I" } : Jvm.MethodName)) ∈ lw_all := lw_g (lw_at lw_m7 13 rfl) rfl
theorem q1550 : (Jvm.Cond.instanceMethod ({ cls := "TouchShelf$Round", name := "serve", desc := "()I" } : Jvm.MethodName)) ∈ lw_all := lw_g (lw_at lw_m7 15 rfl) rfl
theorem q1551 : (Jvm.Cond.selects "TouchShelf$Round" ({ cls := "TouchShelf$Round", name := "serve", desc := "()I" } : Jvm.MethodName) ({ cls := "TouchShelf$Round", name := "serve", desc := "()I" } : Jvm.MethodName)) ∈ lw_all := lw_g (lw_at lw_m7 16 rfl) rfl
theorem q1552 : (Jvm.Cond.code ({ cls := "TouchShelf$Round", name := "serve", desc := "()I" } : Jvm.MethodName) prog_11_method_7_code (1 : Nat) (Option.some Jvm.ClassFile.FieldType.int)) ∈ lw_all := lw_g (lw_at lw_m7 17 rfl) rfl
theorem q1554 : (Jvm.Cond.instanceMethod ({ cls := "TouchShelf$Round", name := "greedy", desc := "()I" } : Jvm.MethodName)) ∈ lw_all := lw_g (lw_at lw_m7 19 rfl) rfl
theorem q1555 : (Jvm.Cond.selects "TouchShelf$Round" ({ cls := "TouchShelf$Round", name := "greedy", desc := "()I" } : Jvm.MethodName) ({ cls := "TouchShelf$Round", name := "greedy", desc := "()I" } : Jvm.MethodName)) ∈ lw_all := lw_g (lw_at lw_m7 20 rfl) rfl
theorem q1556 : (Jvm.Cond.code ({ cls := "TouchShelf$Round", name := "greedy", desc := "()I" } : Jvm.MethodName) prog_11_method_9_code (6 : Nat) (Option.some Jvm.ClassFile.FieldType.int)) ∈ lw_all := lw_g (lw_at lw_m7 21 rfl) rfl
theorem q2296 : (Jvm.Cond.castable "TouchShelf$Round" "java/lang/Object") ∈ lw_tbl := lw_at lw_m10 41 rfl
theorem in_X12 : ∀ w ∈ wsX120, w ∈ lw_all := lw_in wsX120 [1004, 1006, 1008] (by decide +kernel) (by decide +kernel)
theorem q131 : (Jvm.Cond.initialized "TouchShelf$Slides") ∈ lw_all := lw_g (lw_at lw_m1 36 rfl) rfl
theorem q760 : (Jvm.Cond.selects "TouchShelf$Slides" ({ cls := "java/lang/Object", name := "getClass", desc := "()Ljava/lang/Class;" } : Jvm.MethodName) ({ cls := "java/lang/Object", name := "getClass", desc := "()Ljava/lang/Class;" } : Jvm.MethodName)) ∈ lw_all := lw_g (lw_at lw_m3 185 rfl) rfl
theorem q830 : (Jvm.Cond.fieldLinkNest "TouchShelf$Slides" (69 : Nat) "TouchShelf$Shelf" "mark" "[I" "TouchShelf") ∈ lw_tbl := lw_at lw_m4 15 rfl
theorem q1104 : (Jvm.Cond.instantiable "TouchShelf$Slides" (5 : Nat)) ∈ lw_all := lw_g (lw_at lw_m5 49 rfl) rfl
theorem q1106 : (Jvm.Cond.instanceMethod ({ cls := "TouchShelf$Slides", name := "<init>", desc := "()V" } : Jvm.MethodName)) ∈ lw_all := lw_g (lw_at lw_m5 51 rfl) rfl
theorem q1107 : (Jvm.Cond.code ({ cls := "TouchShelf$Slides", name := "<init>", desc := "()V" } : Jvm.MethodName) prog_15_method_1_code (1 : Nat) (Option.none : Option Jvm.ClassFile.FieldType)) ∈ lw_all := lw_g (lw_at lw_m5 52 rfl) rfl
theorem q1108 : (Jvm.Cond.methodLink "TouchShelf$Slides" (3 : Nat) ({ cls := "java/lang/Object", name := "<init>", desc := "()V" } : Jvm.MethodName)) ∈ lw_all := lw_g (lw_at lw_m5 53 rfl) rfl
theorem q1109 : (Jvm.Cond.constant "TouchShelf$Slides" (9 : Nat) (131072 : Int32)) ∈ lw_all := lw_g (lw_at lw_m5 54 rfl) rfl
theorem q1110 : (Jvm.Cond.constant "TouchShelf$Slides" (16 : Nat) (40400 : Int32)) ∈ lw_all := lw_g (lw_at lw_m5 55 rfl) rfl
theorem q1111 : (Jvm.Cond.fieldLink "TouchShelf$Slides" (10 : Nat) "TouchShelf$Slides" "table" "[J") ∈ lw_all := lw_g (lw_at lw_m5 56 rfl) rfl
theorem q1112 : (Jvm.Cond.fieldLink "TouchShelf$Slides" (17 : Nat) "TouchShelf$Slides" "line" "[J") ∈ lw_all := lw_g (lw_at lw_m5 57 rfl) rfl
theorem q1113 : (Jvm.Cond.fieldLink "TouchShelf$Slides" (20 : Nat) "TouchShelf$Slides" "far" "[B") ∈ lw_all := lw_g (lw_at lw_m5 58 rfl) rfl
theorem q1114 : (Jvm.Cond.fieldLink "TouchShelf$Slides" (30 : Nat) "TouchShelf$Slides" "many" "I") ∈ lw_all := lw_g (lw_at lw_m5 59 rfl) rfl
theorem q1115 : (Jvm.Cond.fieldLink "TouchShelf$Slides" (34 : Nat) "TouchShelf$Slides" "places" "I") ∈ lw_all := lw_g (lw_at lw_m5 60 rfl) rfl
theorem q1116 : (Jvm.Cond.laysFinal "TouchShelf$Slides" "TouchShelf$Slides" "table" "[J") ∈ lw_all := lw_g (lw_at lw_m5 61 rfl) rfl
theorem q1117 : (Jvm.Cond.soleField "TouchShelf$Slides" "table") ∈ lw_all := lw_g (lw_at lw_m5 62 rfl) rfl
theorem q1118 : (Jvm.Cond.laysFinal "TouchShelf$Slides" "TouchShelf$Slides" "line" "[J") ∈ lw_all := lw_g (lw_at lw_m5 63 rfl) rfl
theorem q1119 : (Jvm.Cond.soleField "TouchShelf$Slides" "line") ∈ lw_all := lw_g (lw_at lw_m5 64 rfl) rfl
theorem q1120 : (Jvm.Cond.laysFinal "TouchShelf$Slides" "TouchShelf$Slides" "far" "[B") ∈ lw_all := lw_g (lw_at lw_m5 65 rfl) rfl
theorem q1121 : (Jvm.Cond.soleField "TouchShelf$Slides" "far") ∈ lw_all := lw_g (lw_at lw_m5 66 rfl) rfl
theorem q1122 : (Jvm.Cond.lays "TouchShelf$Slides" "TouchShelf$Slides" "many" "I") ∈ lw_all := lw_g (lw_at lw_m5 67 rfl) rfl
theorem q1123 : (Jvm.Cond.soleField "TouchShelf$Slides" "many") ∈ lw_all := lw_g (lw_at lw_m5 68 rfl) rfl
theorem q1124 : (Jvm.Cond.lays "TouchShelf$Slides" "TouchShelf$Slides" "places" "I") ∈ lw_all := lw_g (lw_at lw_m5 69 rfl) rfl
theorem q1125 : (Jvm.Cond.soleField "TouchShelf$Slides" "places") ∈ lw_all := lw_g (lw_at lw_m5 70 rfl) rfl
theorem q1126 : (Jvm.Cond.superclass "TouchShelf$Slides" "java/lang/Object") ∈ lw_all := lw_g (lw_at lw_m5 71 rfl) rfl
theorem q1129 : (Jvm.Cond.instanceMethod ({ cls := "TouchShelf$Slides", name := "of", desc := "(LTouchShelf$Shelf;)LTouchShelf$Slides;" } : Jvm.MethodName)) ∈ lw_all := lw_g (lw_at lw_m5 74 rfl) rfl
theorem q1130 : (Jvm.Cond.selects "TouchShelf$Slides" ({ cls := "TouchShelf$Slides", name := "of", desc := "(LTouchShelf$Shelf;)LTouchShelf$Slides;" } : Jvm.MethodName) ({ cls := "TouchShelf$Slides", name := "of", desc := "(LTouchShelf$Shelf;)LTouchShelf$Slides;" } : Jvm.MethodName)) ∈ lw_all := lw_g (lw_at lw_m5 75 rfl) rfl
theorem q1131 : (Jvm.Cond.code ({ cls := "TouchShelf$Slides", name := "of", desc := "(LTouchShelf$Shelf;)LTouchShelf$Slides;" } : Jvm.MethodName) prog_15_method_8_code (9 : Nat) (Option.some (Jvm.ClassFile.FieldType.object "TouchShelf$Slides"))) ∈ lw_all := lw_g (lw_at lw_m5 76 rfl) rfl
theorem q1132 : (Jvm.Cond.methodLink "TouchShelf$Slides" (63 : Nat) ({ cls := "java/util/Arrays", name := "fill", desc := "([JJ)V" } : Jvm.MethodName)) ∈ lw_all := lw_g (lw_at lw_m5 77 rfl) rfl
theorem q1135 : (Jvm.Cond.methodLink "TouchShelf$Slides" (75 : Nat) ({ cls := "TouchShelf$Shelf", name := "row", desc := "()[I" } : Jvm.MethodName)) ∈ lw_all := lw_g (lw_at lw_m5 80 rfl) rfl
theorem q1136 : (Jvm.Cond.methodLink "TouchShelf$Slides" (79 : Nat) ({ cls := "java/util/Arrays", name := "sort", desc := "([I)V" } : Jvm.MethodName)) ∈ lw_all := lw_g (lw_at lw_m5 81 rfl) rfl
theorem q1168 : (Jvm.Cond.methodLink "TouchShelf$Slides" (83 : Nat) ({ cls := "TouchShelf$Slides", name := "ends", desc := "([I)V" } : Jvm.MethodName)) ∈ lw_all := lw_g (lw_at lw_m5 113 rfl) rfl
theorem q1169 : (Jvm.Cond.privateMethod ({ cls := "TouchShelf$Slides", name := "ends", desc := "([I)V" } : Jvm.MethodName)) ∈ lw_tbl := lw_at lw_m5 114 rfl
theorem q1170 : (Jvm.Cond.instanceMethod ({ cls := "TouchShelf$Slides", name := "ends", desc := "([I)V" } : Jvm.MethodName)) ∈ lw_all := lw_g (lw_at lw_m5 115 rfl) rfl
theorem q1171 : (Jvm.Cond.code ({ cls := "TouchShelf$Slides", name := "ends", desc := "([I)V" } : Jvm.MethodName) prog_15_method_7_code (6 : Nat) (Option.none : Option Jvm.ClassFile.FieldType)) ∈ lw_all := lw_g (lw_at lw_m5 116 rfl) rfl
theorem q1172 : (Jvm.Cond.methodLink "TouchShelf$Slides" (45 : Nat) ({ cls := "java/lang/Integer", name := "bitCount", desc := "(I)I" } : Jvm.MethodName)) ∈ lw_all := lw_g (lw_at lw_m5 117 rfl) rfl
theorem q1173 : (Jvm.Cond.methodLinkNest "TouchShelf$Slides" (51 : Nat) ({ cls := "TouchShelf", name := "has", desc := "(JI)Z" } : Jvm.MethodName) "TouchShelf") ∈ lw_tbl := lw_at lw_m5 118 rfl
theorem q1174 : (Jvm.Cond.methodLink "TouchShelf$Slides" (55 : Nat) ({ cls := "TouchShelf$Slides", name := "code", desc := "([I)J" } : Jvm.MethodName)) ∈ lw_all := lw_g (lw_at lw_m5 119 rfl) rfl
theorem q1175 : (Jvm.Cond.static ({ cls := "TouchShelf$Slides", name := "code", desc := "([I)J" } : Jvm.MethodName)) ∈ lw_all := lw_g (lw_at lw_m5 120 rfl) rfl
theorem q1176 : (Jvm.Cond.code ({ cls := "TouchShelf$Slides", name := "code", desc := "([I)J" } : Jvm.MethodName) prog_15_method_2_code (4 : Nat) (Option.some Jvm.ClassFile.FieldType.long)) ∈ lw_all := lw_g (lw_at lw_m5 121 rfl) rfl
theorem q1177 : (Jvm.Cond.methodLink "TouchShelf$Slides" (59 : Nat) ({ cls := "TouchShelf$Slides", name := "meets", desc := "(JI)V" } : Jvm.MethodName)) ∈ lw_all := lw_g (lw_at lw_m5 122 rfl) rfl
theorem q1178 : (Jvm.Cond.privateMethod ({ cls := "TouchShelf$Slides", name := "meets", desc := "(JI)V" } : Jvm.MethodName)) ∈ lw_tbl := lw_at lw_m5 123 rfl
theorem q1179 : (Jvm.Cond.instanceMethod ({ cls := "TouchShelf$Slides", name := "meets", desc := "(JI)V" } : Jvm.MethodName)) ∈ lw_all := lw_g (lw_at lw_m5 124 rfl) rfl
theorem q1180 : (Jvm.Cond.code ({ cls := "TouchShelf$Slides", name := "meets", desc := "(JI)V" } : Jvm.MethodName) prog_15_method_4_code (5 : Nat) (Option.none : Option Jvm.ClassFile.FieldType)) ∈ lw_all := lw_g (lw_at lw_m5 125 rfl) rfl
theorem q1181 : (Jvm.Cond.methodLink "TouchShelf$Slides" (26 : Nat) ({ cls := "TouchShelf$Slides", name := "at", desc := "(J)I" } : Jvm.MethodName)) ∈ lw_all := lw_g (lw_at lw_m5 126 rfl) rfl
theorem q1182 : (Jvm.Cond.privateMethod ({ cls := "TouchShelf$Slides", name := "at", desc := "(J)I" } : Jvm.MethodName)) ∈ lw_tbl := lw_at lw_m5 127 rfl
theorem q1183 : (Jvm.Cond.instanceMethod ({ cls := "TouchShelf$Slides", name := "at", desc := "(J)I" } : Jvm.MethodName)) ∈ lw_all := lw_g (lw_at lw_m5 128 rfl) rfl
theorem q1184 : (Jvm.Cond.code ({ cls := "TouchShelf$Slides", name := "at", desc := "(J)I" } : Jvm.MethodName) prog_15_method_3_code (4 : Nat) (Option.some Jvm.ClassFile.FieldType.int)) ∈ lw_all := lw_g (lw_at lw_m5 129 rfl) rfl
theorem q1185 : (Jvm.Cond.constantLong "TouchShelf$Slides" (24 : Nat) (-7046029254386353131 : Int64)) ∈ lw_all := lw_g (lw_at lw_m5 130 rfl) rfl
theorem q1186 : (Jvm.Cond.methodLink "TouchShelf$Slides" (37 : Nat) ({ cls := "TouchShelf$Slides", name := "of", desc := "(JI)I" } : Jvm.MethodName)) ∈ lw_all := lw_g (lw_at lw_m5 131 rfl) rfl
theorem q1187 : (Jvm.Cond.privateMethod ({ cls := "TouchShelf$Slides", name := "of", desc := "(JI)I" } : Jvm.MethodName)) ∈ lw_tbl := lw_at lw_m5 132 rfl
theorem q1188 : (Jvm.Cond.instanceMethod ({ cls := "TouchShelf$Slides", name := "of", desc := "(JI)I" } : Jvm.MethodName)) ∈ lw_all := lw_g (lw_at lw_m5 133 rfl) rfl
theorem q1189 : (Jvm.Cond.code ({ cls := "TouchShelf$Slides", name := "of", desc := "(JI)I" } : Jvm.MethodName) prog_15_method_5_code (4 : Nat) (Option.some Jvm.ClassFile.FieldType.int)) ∈ lw_all := lw_g (lw_at lw_m5 134 rfl) rfl
theorem q1190 : (Jvm.Cond.methodLink "TouchShelf$Slides" (86 : Nat) ({ cls := "TouchShelf$Slides", name := "slid", desc := "(JII)J" } : Jvm.MethodName)) ∈ lw_all := lw_g (lw_at lw_m5 135 rfl) rfl
theorem q1191 : (Jvm.Cond.privateMethod ({ cls := "TouchShelf$Slides", name := "slid", desc := "(JII)J" } : Jvm.MethodName)) ∈ lw_tbl := lw_at lw_m5 136 rfl
theorem q1192 : (Jvm.Cond.instanceMethod ({ cls := "TouchShelf$Slides", name := "slid", desc := "(JII)J" } : Jvm.MethodName)) ∈ lw_all := lw_g (lw_at lw_m5 137 rfl) rfl
theorem q1193 : (Jvm.Cond.code ({ cls := "TouchShelf$Slides", name := "slid", desc := "(JII)J" } : Jvm.MethodName) prog_15_method_6_code (7 : Nat) (Option.some Jvm.ClassFile.FieldType.long)) ∈ lw_all := lw_g (lw_at lw_m5 138 rfl) rfl
theorem q1194 : (Jvm.Cond.constantLong "TouchShelf$Slides" (41 : Nat) (63 : Int64)) ∈ lw_all := lw_g (lw_at lw_m5 139 rfl) rfl
theorem q1195 : (Jvm.Cond.constantLong "TouchShelf$Slides" (43 : Nat) (-1 : Int64)) ∈ lw_all := lw_g (lw_at lw_m5 140 rfl) rfl
theorem q1197 : (Jvm.Cond.instanceMethod ({ cls := "TouchShelf$Slides", name := "many", desc := "([I)I" } : Jvm.MethodName)) ∈ lw_all := lw_g (lw_at lw_m5 142 rfl) rfl
theorem q1198 : (Jvm.Cond.selects "TouchShelf$Slides" ({ cls := "TouchShelf$Slides", name := "many", desc := "([I)I" } : Jvm.MethodName) ({ cls := "TouchShelf$Slides", name := "many", desc := "([I)I" } : Jvm.MethodName)) ∈ lw_all := lw_g (lw_at lw_m5 143 rfl) rfl
theorem q1199 : (Jvm.Cond.code ({ cls := "TouchShelf$Slides", name := "many", desc := "([I)I" } : Jvm.MethodName) prog_15_method_9_code (3 : Nat) (Option.some Jvm.ClassFile.FieldType.int)) ∈ lw_all := lw_g (lw_at lw_m5 144 rfl) rfl
theorem q1201 : (Jvm.Cond.instanceMethod ({ cls := "TouchShelf$Slides", name := "first", desc := "([I)I" } : Jvm.MethodName)) ∈ lw_all := lw_g (lw_at lw_m5 146 rfl) rfl
theorem q1202 : (Jvm.Cond.selects "TouchShelf$Slides" ({ cls := "TouchShelf$Slides", name := "first", desc := "([I)I" } : Jvm.MethodName) ({ cls := "TouchShelf$Slides", name := "first", desc := "([I)I" } : Jvm.MethodName)) ∈ lw_all := lw_g (lw_at lw_m5 147 rfl) rfl
theorem q1203 : (Jvm.Cond.code ({ cls := "TouchShelf$Slides", name := "first", desc := "([I)I" } : Jvm.MethodName) prog_15_method_10_code (7 : Nat) (Option.some Jvm.ClassFile.FieldType.int)) ∈ lw_all := lw_g (lw_at lw_m5 148 rfl) rfl
theorem q1204 : (Jvm.Cond.methodLink "TouchShelf$Slides" (90 : Nat) ({ cls := "TouchShelf$Slides", name := "many", desc := "([I)I" } : Jvm.MethodName)) ∈ lw_all := lw_g (lw_at lw_m5 149 rfl) rfl
theorem q2297 : (Jvm.Cond.castable "TouchShelf$Slides" "java/lang/Object") ∈ lw_tbl := lw_at lw_m10 42 rfl
theorem in_X13 : ∀ w ∈ wsX130, w ∈ lw_all := lw_in wsX130 [1116, 1118, 1120, 1122, 1124] (by decide +kernel) (by decide +kernel)
theorem q133 : (Jvm.Cond.initialized "TouchShelf$Course") ∈ lw_all := lw_g (lw_at lw_m1 38 rfl) rfl
theorem q512 : (Jvm.Cond.fieldLinkNest "TouchShelf$Course" (29 : Nat) "TouchShelf$Library" "shelves" "Ljava/util/ArrayList;" "TouchShelf") ∈ lw_tbl := lw_at lw_m2 177 rfl
theorem q706 : (Jvm.Cond.fieldLinkNest "TouchShelf$Course" (74 : Nat) "TouchShelf$Deed" "doing" "LTouchShelf$Doing;" "TouchShelf") ∈ lw_tbl := lw_at lw_m3 131 rfl
theorem q708 : (Jvm.Cond.fieldLinkNest "TouchShelf$Course" (53 : Nat) "TouchShelf$Deed" "shelf" "I" "TouchShelf") ∈ lw_tbl := lw_at lw_m3 133 rfl
theorem q710 : (Jvm.Cond.fieldLinkNest "TouchShelf$Course" (58 : Nat) "TouchShelf$Deed" "a" "I" "TouchShelf") ∈ lw_tbl := lw_at lw_m3 135 rfl
theorem q712 : (Jvm.Cond.fieldLinkNest "TouchShelf$Course" (83 : Nat) "TouchShelf$Deed" "b" "I" "TouchShelf") ∈ lw_tbl := lw_at lw_m3 137 rfl
theorem q748 : (Jvm.Cond.selects "TouchShelf$Course" ({ cls := "java/lang/Object", name := "getClass", desc := "()Ljava/lang/Class;" } : Jvm.MethodName) ({ cls := "java/lang/Object", name := "getClass", desc := "()Ljava/lang/Class;" } : Jvm.MethodName)) ∈ lw_all := lw_g (lw_at lw_m3 173 rfl) rfl
theorem q828 : (Jvm.Cond.fieldLinkNest "TouchShelf$Course" (89 : Nat) "TouchShelf$Shelf" "mark" "[I" "TouchShelf") ∈ lw_tbl := lw_at lw_m4 13 rfl
theorem q1380 : (Jvm.Cond.instantiable "TouchShelf$Course" (9 : Nat)) ∈ lw_all := lw_g (lw_at lw_m6 85 rfl) rfl
theorem q1382 : (Jvm.Cond.instanceMethod ({ cls := "TouchShelf$Course", name := "<init>", desc := "(LTouchShelf$Library;)V" } : Jvm.MethodName)) ∈ lw_all := lw_g (lw_at lw_m6 87 rfl) rfl
theorem q1383 : (Jvm.Cond.code ({ cls := "TouchShelf$Course", name := "<init>", desc := "(LTouchShelf$Library;)V" } : Jvm.MethodName) prog_2_method_1_code (3 : Nat) (Option.none : Option Jvm.ClassFile.FieldType)) ∈ lw_all := lw_g (lw_at lw_m6 88 rfl) rfl
theorem q1384 : (Jvm.Cond.methodLink "TouchShelf$Course" (3 : Nat) ({ cls := "java/lang/Object", name := "<init>", desc := "()V" } : Jvm.MethodName)) ∈ lw_all := lw_g (lw_at lw_m6 89 rfl) rfl
theorem q1385 : (Jvm.Cond.methodLink "TouchShelf$Course" (19 : Nat) ({ cls := "TouchShelf$Library", name := "copy", desc := "()LTouchShelf$Library;" } : Jvm.MethodName)) ∈ lw_all := lw_g (lw_at lw_m6 90 rfl) rfl
theorem q1393 : (Jvm.Cond.methodLink "TouchShelf$Course" (33 : Nat) ({ cls := "java/util/ArrayList", name := "size", desc := "()I" } : Jvm.MethodName)) ∈ lw_all := lw_g (lw_at lw_m6 98 rfl) rfl
theorem q1394 : (Jvm.Cond.classLink "TouchShelf$Course" (39 : Nat) "[[I") ∈ lw_all := lw_g (lw_at lw_m6 99 rfl) rfl
theorem q1396 : (Jvm.Cond.methodLink "TouchShelf$Course" (44 : Nat) ({ cls := "TouchShelf$Library", name := "every", desc := "()I" } : Jvm.MethodName)) ∈ lw_all := lw_g (lw_at lw_m6 101 rfl) rfl
theorem q1397 : (Jvm.Cond.methodLink "TouchShelf$Course" (47 : Nat) ({ cls := "java/util/Arrays", name := "fill", desc := "([II)V" } : Jvm.MethodName)) ∈ lw_all := lw_g (lw_at lw_m6 102 rfl) rfl
theorem q1400 : (Jvm.Cond.fieldLink "TouchShelf$Course" (25 : Nat) "TouchShelf$Course" "at" "LTouchShelf$Library;") ∈ lw_all := lw_g (lw_at lw_m6 105 rfl) rfl
theorem q1402 : (Jvm.Cond.fieldLink "TouchShelf$Course" (41 : Nat) "TouchShelf$Course" "may" "[[I") ∈ lw_all := lw_g (lw_at lw_m6 107 rfl) rfl
theorem q1404 : (Jvm.Cond.fieldLink "TouchShelf$Course" (9 : Nat) "TouchShelf$Course" "lent" "[I") ∈ lw_all := lw_g (lw_at lw_m6 109 rfl) rfl
theorem q1405 : (Jvm.Cond.fieldLink "TouchShelf$Course" (117 : Nat) "TouchShelf$Course" "done" "I") ∈ lw_all := lw_g (lw_at lw_m6 110 rfl) rfl
theorem q1407 : (Jvm.Cond.fieldLink "TouchShelf$Course" (114 : Nat) "TouchShelf$Course" "wrong" "I") ∈ lw_all := lw_g (lw_at lw_m6 112 rfl) rfl
theorem q1409 : (Jvm.Cond.fieldLink "TouchShelf$Course" (15 : Nat) "TouchShelf$Course" "firstWrong" "I") ∈ lw_all := lw_g (lw_at lw_m6 114 rfl) rfl
theorem q1411 : (Jvm.Cond.fieldLink "TouchShelf$Course" (92 : Nat) "TouchShelf$Course" "hands" "I") ∈ lw_all := lw_g (lw_at lw_m6 116 rfl) rfl
theorem q1413 : (Jvm.Cond.fieldLink "TouchShelf$Course" (95 : Nat) "TouchShelf$Course" "handShelf" "I") ∈ lw_all := lw_g (lw_at lw_m6 118 rfl) rfl
theorem q1414 : (Jvm.Cond.fieldLink "TouchShelf$Course" (104 : Nat) "TouchShelf$Course" "handPlace" "I") ∈ lw_all := lw_g (lw_at lw_m6 119 rfl) rfl
theorem q1415 : (Jvm.Cond.laysFinal "TouchShelf$Course" "TouchShelf$Course" "at" "LTouchShelf$Library;") ∈ lw_all := lw_g (lw_at lw_m6 120 rfl) rfl
theorem q1416 : (Jvm.Cond.soleField "TouchShelf$Course" "at") ∈ lw_all := lw_g (lw_at lw_m6 121 rfl) rfl
theorem q1417 : (Jvm.Cond.laysFinal "TouchShelf$Course" "TouchShelf$Course" "may" "[[I") ∈ lw_all := lw_g (lw_at lw_m6 122 rfl) rfl
theorem q1418 : (Jvm.Cond.soleField "TouchShelf$Course" "may") ∈ lw_all := lw_g (lw_at lw_m6 123 rfl) rfl
theorem q1419 : (Jvm.Cond.laysFinal "TouchShelf$Course" "TouchShelf$Course" "lent" "[I") ∈ lw_all := lw_g (lw_at lw_m6 124 rfl) rfl
theorem q1420 : (Jvm.Cond.soleField "TouchShelf$Course" "lent") ∈ lw_all := lw_g (lw_at lw_m6 125 rfl) rfl
theorem q1421 : (Jvm.Cond.lays "TouchShelf$Course" "TouchShelf$Course" "done" "I") ∈ lw_all := lw_g (lw_at lw_m6 126 rfl) rfl
theorem q1422 : (Jvm.Cond.soleField "TouchShelf$Course" "done") ∈ lw_all := lw_g (lw_at lw_m6 127 rfl) rfl
theorem q1423 : (Jvm.Cond.lays "TouchShelf$Course" "TouchShelf$Course" "wrong" "I") ∈ lw_all := lw_g (lw_at lw_m6 128 rfl) rfl
theorem q1424 : (Jvm.Cond.soleField "TouchShelf$Course" "wrong") ∈ lw_all := lw_g (lw_at lw_m6 129 rfl) rfl
theorem q1425 : (Jvm.Cond.lays "TouchShelf$Course" "TouchShelf$Course" "firstWrong" "I") ∈ lw_all := lw_g (lw_at lw_m6 130 rfl) rfl
theorem q1426 : (Jvm.Cond.soleField "TouchShelf$Course" "firstWrong") ∈ lw_all := lw_g (lw_at lw_m6 131 rfl) rfl
theorem q1427 : (Jvm.Cond.lays "TouchShelf$Course" "TouchShelf$Course" "hands" "I") ∈ lw_all := lw_g (lw_at lw_m6 132 rfl) rfl
theorem q1428 : (Jvm.Cond.soleField "TouchShelf$Course" "hands") ∈ lw_all := lw_g (lw_at lw_m6 133 rfl) rfl
theorem q1429 : (Jvm.Cond.lays "TouchShelf$Course" "TouchShelf$Course" "handShelf" "I") ∈ lw_all := lw_g (lw_at lw_m6 134 rfl) rfl
theorem q1430 : (Jvm.Cond.soleField "TouchShelf$Course" "handShelf") ∈ lw_all := lw_g (lw_at lw_m6 135 rfl) rfl
theorem q1431 : (Jvm.Cond.lays "TouchShelf$Course" "TouchShelf$Course" "handPlace" "I") ∈ lw_all := lw_g (lw_at lw_m6 136 rfl) rfl
theorem q1432 : (Jvm.Cond.soleField "TouchShelf$Course" "handPlace") ∈ lw_all := lw_g (lw_at lw_m6 137 rfl) rfl
theorem q1433 : (Jvm.Cond.superclass "TouchShelf$Course" "java/lang/Object") ∈ lw_all := lw_g (lw_at lw_m6 138 rfl) rfl
theorem q1435 : (Jvm.Cond.instanceMethod ({ cls := "TouchShelf$Course", name := "goes", desc := "(Ljava/util/ArrayList;I)LTouchShelf$Course;" } : Jvm.MethodName)) ∈ lw_all := lw_g (lw_at lw_m6 140 rfl) rfl
theorem q1436 : (Jvm.Cond.selects "TouchShelf$Course" ({ cls := "TouchShelf$Course", name := "goes", desc := "(Ljava/util/ArrayList;I)LTouchShelf$Course;" } : Jvm.MethodName) ({ cls := "TouchShelf$Course", name := "goes", desc := "(Ljava/util/ArrayList;I)LTouchShelf$Course;" } : Jvm.MethodName)) ∈ lw_all := lw_g (lw_at lw_m6 141 rfl) rfl
theorem q1437 : (Jvm.Cond.code ({ cls := "TouchShelf$Course", name := "goes", desc := "(Ljava/util/ArrayList;I)LTouchShelf$Course;" } : Jvm.MethodName) prog_2_method_7_code (3 : Nat) (Option.some (Jvm.ClassFile.FieldType.object "TouchShelf$Course"))) ∈ lw_all := lw_g (lw_at lw_m6 142 rfl) rfl
theorem q1438 : (Jvm.Cond.methodLink "TouchShelf$Course" (136 : Nat) ({ cls := "java/util/ArrayList", name := "get", desc := "(I)Ljava/lang/Object;" } : Jvm.MethodName)) ∈ lw_all := lw_g (lw_at lw_m6 143 rfl) rfl
theorem q1439 : (Jvm.Cond.classLink "TouchShelf$Course" (54 : Nat) "TouchShelf$Deed") ∈ lw_all := lw_g (lw_at lw_m6 144 rfl) rfl
theorem q1440 : (Jvm.Cond.methodLink "TouchShelf$Course" (140 : Nat) ({ cls := "TouchShelf$Course", name := "can", desc := "(LTouchShelf$Deed;)Z" } : Jvm.MethodName)) ∈ lw_all := lw_g (lw_at lw_m6 145 rfl) rfl
theorem q1441 : (Jvm.Cond.privateMethod ({ cls := "TouchShelf$Course", name := "can", desc := "(LTouchShelf$Deed;)Z" } : Jvm.MethodName)) ∈ lw_tbl := lw_at lw_m6 146 rfl
theorem q1442 : (Jvm.Cond.instanceMethod ({ cls := "TouchShelf$Course", name := "can", desc := "(LTouchShelf$Deed;)Z" } : Jvm.MethodName)) ∈ lw_all := lw_g (lw_at lw_m6 147 rfl) rfl
theorem q1443 : (Jvm.Cond.code ({ cls := "TouchShelf$Course", name := "can", desc := "(LTouchShelf$Deed;)Z" } : Jvm.MethodName) prog_2_method_2_code (3 : Nat) (Option.some Jvm.ClassFile.FieldType.boolean)) ∈ lw_all := lw_g (lw_at lw_m6 148 rfl) rfl
theorem q1444 : (Jvm.Cond.methodLink "TouchShelf$Course" (61 : Nat) ({ cls := "TouchShelf$Library", name := "isPlace", desc := "(II)Z" } : Jvm.MethodName)) ∈ lw_all := lw_g (lw_at lw_m6 149 rfl) rfl
theorem q1445 : (Jvm.Cond.methodLink "TouchShelf$Course" (65 : Nat) ({ cls := "TouchShelf$Library", name := "shelf", desc := "(I)LTouchShelf$Shelf;" } : Jvm.MethodName)) ∈ lw_all := lw_g (lw_at lw_m6 150 rfl) rfl
theorem q1446 : (Jvm.Cond.methodLink "TouchShelf$Course" (68 : Nat) ({ cls := "TouchShelf$Shelf", name := "isTablet", desc := "(I)Z" } : Jvm.MethodName)) ∈ lw_all := lw_g (lw_at lw_m6 151 rfl) rfl
theorem q1447 : (Jvm.Cond.methodLink "TouchShelf$Course" (78 : Nat) ({ cls := "TouchShelf$Doing", name := "ordinal", desc := "()I" } : Jvm.MethodName)) ∈ lw_all := lw_g (lw_at lw_m6 152 rfl) rfl
theorem q1448 : (Jvm.Cond.methodLink "TouchShelf$Course" (86 : Nat) ({ cls := "TouchShelf$Library", name := "isMark", desc := "(I)Z" } : Jvm.MethodName)) ∈ lw_all := lw_g (lw_at lw_m6 153 rfl) rfl
theorem q1449 : (Jvm.Cond.methodLink "TouchShelf$Course" (144 : Nat) ({ cls := "TouchShelf$Course", name := "does", desc := "(LTouchShelf$Deed;)V" } : Jvm.MethodName)) ∈ lw_all := lw_g (lw_at lw_m6 154 rfl) rfl
theorem q1450 : (Jvm.Cond.privateMethod ({ cls := "TouchShelf$Course", name := "does", desc := "(LTouchShelf$Deed;)V" } : Jvm.MethodName)) ∈ lw_tbl := lw_at lw_m6 155 rfl
theorem q1451 : (Jvm.Cond.instanceMethod ({ cls := "TouchShelf$Course", name := "does", desc := "(LTouchShelf$Deed;)V" } : Jvm.MethodName)) ∈ lw_all := lw_g (lw_at lw_m6 156 rfl) rfl
theorem q1452 : (Jvm.Cond.code ({ cls := "TouchShelf$Course", name := "does", desc := "(LTouchShelf$Deed;)V" } : Jvm.MethodName) prog_2_method_6_code (3 : Nat) (Option.none : Option Jvm.ClassFile.FieldType)) ∈ lw_all := lw_g (lw_at lw_m6 157 rfl) rfl
theorem q1453 : (Jvm.Cond.methodLink "TouchShelf$Course" (120 : Nat) ({ cls := "TouchShelf$Course", name := "goesTo", desc := "(II)V" } : Jvm.MethodName)) ∈ lw_all := lw_g (lw_at lw_m6 158 rfl) rfl
theorem q1454 : (Jvm.Cond.privateMethod ({ cls := "TouchShelf$Course", name := "goesTo", desc := "(II)V" } : Jvm.MethodName)) ∈ lw_tbl := lw_at lw_m6 159 rfl
theorem q1455 : (Jvm.Cond.instanceMethod ({ cls := "TouchShelf$Course", name := "goesTo", desc := "(II)V" } : Jvm.MethodName)) ∈ lw_all := lw_g (lw_at lw_m6 160 rfl) rfl
theorem q1456 : (Jvm.Cond.code ({ cls := "TouchShelf$Course", name := "goesTo", desc := "(II)V" } : Jvm.MethodName) prog_2_method_4_code (3 : Nat) (Option.none : Option Jvm.ClassFile.FieldType)) ∈ lw_all := lw_g (lw_at lw_m6 161 rfl) rfl
theorem q1457 : (Jvm.Cond.methodLink "TouchShelf$Course" (98 : Nat) ({ cls := "java/lang/Math", name := "abs", desc := "(I)I" } : Jvm.MethodName)) ∈ lw_all := lw_g (lw_at lw_m6 162 rfl) rfl
theorem q1460 : (Jvm.Cond.methodLink "TouchShelf$Course" (124 : Nat) ({ cls := "java/lang/Math", name := "max", desc := "(II)I" } : Jvm.MethodName)) ∈ lw_all := lw_g (lw_at lw_m6 165 rfl) rfl
theorem q1461 : (Jvm.Cond.methodLink "TouchShelf$Course" (128 : Nat) ({ cls := "TouchShelf$Course", name := "changes", desc := "(III)V" } : Jvm.MethodName)) ∈ lw_all := lw_g (lw_at lw_m6 166 rfl) rfl
theorem q1462 : (Jvm.Cond.privateMethod ({ cls := "TouchShelf$Course", name := "changes", desc := "(III)V" } : Jvm.MethodName)) ∈ lw_tbl := lw_at lw_m6 167 rfl
theorem q1463 : (Jvm.Cond.instanceMethod ({ cls := "TouchShelf$Course", name := "changes", desc := "(III)V" } : Jvm.MethodName)) ∈ lw_all := lw_g (lw_at lw_m6 168 rfl) rfl
theorem q1464 : (Jvm.Cond.code ({ cls := "TouchShelf$Course", name := "changes", desc := "(III)V" } : Jvm.MethodName) prog_2_method_3_code (4 : Nat) (Option.none : Option Jvm.ClassFile.FieldType)) ∈ lw_all := lw_g (lw_at lw_m6 169 rfl) rfl
theorem q1465 : (Jvm.Cond.methodLink "TouchShelf$Course" (132 : Nat) ({ cls := "TouchShelf$Course", name := "feels", desc := "(LTouchShelf$Deed;)V" } : Jvm.MethodName)) ∈ lw_all := lw_g (lw_at lw_m6 170 rfl) rfl
theorem q1466 : (Jvm.Cond.privateMethod ({ cls := "TouchShelf$Course", name := "feels", desc := "(LTouchShelf$Deed;)V" } : Jvm.MethodName)) ∈ lw_tbl := lw_at lw_m6 171 rfl
theorem q1467 : (Jvm.Cond.instanceMethod ({ cls := "TouchShelf$Course", name := "feels", desc := "(LTouchShelf$Deed;)V" } : Jvm.MethodName)) ∈ lw_all := lw_g (lw_at lw_m6 172 rfl) rfl
theorem q1468 : (Jvm.Cond.code ({ cls := "TouchShelf$Course", name := "feels", desc := "(LTouchShelf$Deed;)V" } : Jvm.MethodName) prog_2_method_5_code (3 : Nat) (Option.none : Option Jvm.ClassFile.FieldType)) ∈ lw_all := lw_g (lw_at lw_m6 173 rfl) rfl
theorem q1469 : (Jvm.Cond.methodLink "TouchShelf$Course" (107 : Nat) ({ cls := "TouchShelf$Library", name := "readings", desc := "(I)I" } : Jvm.MethodName)) ∈ lw_all := lw_g (lw_at lw_m6 174 rfl) rfl
theorem q1470 : (Jvm.Cond.methodLinkNest "TouchShelf$Course" (110 : Nat) ({ cls := "TouchShelf", name := "has", desc := "(JI)Z" } : Jvm.MethodName) "TouchShelf") ∈ lw_tbl := lw_at lw_m6 175 rfl
theorem q1485 : (Jvm.Cond.instanceMethod ({ cls := "TouchShelf$Course", name := "lent", desc := "()J" } : Jvm.MethodName)) ∈ lw_all := lw_g (lw_at lw_m6 190 rfl) rfl
theorem q1486 : (Jvm.Cond.selects "TouchShelf$Course" ({ cls := "TouchShelf$Course", name := "lent", desc := "()J" } : Jvm.MethodName) ({ cls := "TouchShelf$Course", name := "lent", desc := "()J" } : Jvm.MethodName)) ∈ lw_all := lw_g (lw_at lw_m6 191 rfl) rfl
theorem q1487 : (Jvm.Cond.code ({ cls := "TouchShelf$Course", name := "lent", desc := "()J" } : Jvm.MethodName) prog_2_method_8_code (4 : Nat) (Option.some Jvm.ClassFile.FieldType.long)) ∈ lw_all := lw_g (lw_at lw_m6 192 rfl) rfl
theorem q1492 : (Jvm.Cond.instanceMethod ({ cls := "TouchShelf$Course", name := "sure", desc := "()I" } : Jvm.MethodName)) ∈ lw_all := lw_g (lw_at lw_m6 197 rfl) rfl
theorem q1493 : (Jvm.Cond.selects "TouchShelf$Course" ({ cls := "TouchShelf$Course", name := "sure", desc := "()I" } : Jvm.MethodName) ({ cls := "TouchShelf$Course", name := "sure", desc := "()I" } : Jvm.MethodName)) ∈ lw_all := lw_g (lw_at lw_m6 198 rfl) rfl
theorem q1494 : (Jvm.Cond.code ({ cls := "TouchShelf$Course", name := "sure", desc := "()I" } : Jvm.MethodName) prog_2_method_9_code (4 : Nat) (Option.some Jvm.ClassFile.FieldType.int)) ∈ lw_all := lw_g (lw_at lw_m6 199 rfl) rfl
theorem q1495 : (Jvm.Cond.methodLink "TouchShelf$Course" (147 : Nat) ({ cls := "java/lang/Integer", name := "bitCount", desc := "(I)I" } : Jvm.MethodName)) ∈ lw_all := lw_g (lw_at lw_m6 200 rfl) rfl
theorem q2298 : (Jvm.Cond.castable "TouchShelf$Course" "java/lang/Object") ∈ lw_tbl := lw_at lw_m10 43 rfl
theorem in_X14 : ∀ w ∈ wsX140, w ∈ lw_all := lw_in wsX140 [1415, 1417, 1419, 1421, 1423, 1425, 1427, 1429, 1431] (by decide +kernel) (by decide +kernel)
theorem q134 : (Jvm.Cond.initialized "TouchShelf$Dice") ∈ lw_all := lw_g (lw_at lw_m1 39 rfl) rfl
theorem q751 : (Jvm.Cond.selects "TouchShelf$Dice" ({ cls := "java/lang/Object", name := "getClass", desc := "()Ljava/lang/Class;" } : Jvm.MethodName) ({ cls := "java/lang/Object", name := "getClass", desc := "()Ljava/lang/Class;" } : Jvm.MethodName)) ∈ lw_all := lw_g (lw_at lw_m3 176 rfl) rfl
theorem q1562 : (Jvm.Cond.instantiable "TouchShelf$Dice" (1 : Nat)) ∈ lw_all := lw_g (lw_at lw_m7 27 rfl) rfl
theorem q1564 : (Jvm.Cond.instanceMethod ({ cls := "TouchShelf$Dice", name := "<init>", desc := "(I)V" } : Jvm.MethodName)) ∈ lw_all := lw_g (lw_at lw_m7 29 rfl) rfl
theorem q1565 : (Jvm.Cond.code ({ cls := "TouchShelf$Dice", name := "<init>", desc := "(I)V" } : Jvm.MethodName) prog_5_method_1_code (2 : Nat) (Option.none : Option Jvm.ClassFile.FieldType)) ∈ lw_all := lw_g (lw_at lw_m7 30 rfl) rfl
theorem q1566 : (Jvm.Cond.methodLink "TouchShelf$Dice" (1 : Nat) ({ cls := "java/lang/Object", name := "<init>", desc := "()V" } : Jvm.MethodName)) ∈ lw_all := lw_g (lw_at lw_m7 31 rfl) rfl
theorem q1567 : (Jvm.Cond.fieldLink "TouchShelf$Dice" (7 : Nat) "TouchShelf$Dice" "x" "I") ∈ lw_all := lw_g (lw_at lw_m7 32 rfl) rfl
theorem q1568 : (Jvm.Cond.lays "TouchShelf$Dice" "TouchShelf$Dice" "x" "I") ∈ lw_all := lw_g (lw_at lw_m7 33 rfl) rfl
theorem q1569 : (Jvm.Cond.soleField "TouchShelf$Dice" "x") ∈ lw_all := lw_g (lw_at lw_m7 34 rfl) rfl
theorem q1570 : (Jvm.Cond.superclass "TouchShelf$Dice" "java/lang/Object") ∈ lw_all := lw_g (lw_at lw_m7 35 rfl) rfl
theorem q1575 : (Jvm.Cond.instanceMethod ({ cls := "TouchShelf$Dice", name := "below", desc := "(I)I" } : Jvm.MethodName)) ∈ lw_all := lw_g (lw_at lw_m7 40 rfl) rfl
theorem q1576 : (Jvm.Cond.selects "TouchShelf$Dice" ({ cls := "TouchShelf$Dice", name := "below", desc := "(I)I" } : Jvm.MethodName) ({ cls := "TouchShelf$Dice", name := "below", desc := "(I)I" } : Jvm.MethodName)) ∈ lw_all := lw_g (lw_at lw_m7 41 rfl) rfl
theorem q1577 : (Jvm.Cond.code ({ cls := "TouchShelf$Dice", name := "below", desc := "(I)I" } : Jvm.MethodName) prog_5_method_2_code (2 : Nat) (Option.some Jvm.ClassFile.FieldType.int)) ∈ lw_all := lw_g (lw_at lw_m7 42 rfl) rfl
theorem q1578 : (Jvm.Cond.constant "TouchShelf$Dice" (13 : Nat) (1103515245 : Int32)) ∈ lw_all := lw_g (lw_at lw_m7 43 rfl) rfl
theorem q2299 : (Jvm.Cond.castable "TouchShelf$Dice" "java/lang/Object") ∈ lw_tbl := lw_at lw_m10 44 rfl
theorem in_X15 : ∀ w ∈ wsX150, w ∈ lw_all := lw_in wsX150 [1568] (by decide +kernel) (by decide +kernel)
theorem q101 : (Jvm.Cond.initialized "TouchShelf$Sets") ∈ lw_all := lw_g (lw_at lw_m1 6 rfl) rfl
theorem q209 : (Jvm.Cond.instantiable "TouchShelf$Sets" (3 : Nat)) ∈ lw_all := lw_g (lw_at lw_m1 114 rfl) rfl
theorem q211 : (Jvm.Cond.instanceMethod ({ cls := "TouchShelf$Sets", name := "<init>", desc := "()V" } : Jvm.MethodName)) ∈ lw_all := lw_g (lw_at lw_m1 116 rfl) rfl
theorem q212 : (Jvm.Cond.code ({ cls := "TouchShelf$Sets", name := "<init>", desc := "()V" } : Jvm.MethodName) prog_13_method_1_code (1 : Nat) (Option.none : Option Jvm.ClassFile.FieldType)) ∈ lw_all := lw_g (lw_at lw_m1 117 rfl) rfl
theorem q213 : (Jvm.Cond.methodLink "TouchShelf$Sets" (3 : Nat) ({ cls := "java/lang/Object", name := "<init>", desc := "()V" } : Jvm.MethodName)) ∈ lw_all := lw_g (lw_at lw_m1 118 rfl) rfl
theorem q214 : (Jvm.Cond.fieldLink "TouchShelf$Sets" (9 : Nat) "TouchShelf$Sets" "near" "[I") ∈ lw_all := lw_g (lw_at lw_m1 119 rfl) rfl
theorem q215 : (Jvm.Cond.fieldLink "TouchShelf$Sets" (27 : Nat) "TouchShelf$Sets" "best" "I") ∈ lw_all := lw_g (lw_at lw_m1 120 rfl) rfl
theorem q216 : (Jvm.Cond.fieldLink "TouchShelf$Sets" (19 : Nat) "TouchShelf$Sets" "size" "I") ∈ lw_all := lw_g (lw_at lw_m1 121 rfl) rfl
theorem q217 : (Jvm.Cond.laysFinal "TouchShelf$Sets" "TouchShelf$Sets" "near" "[I") ∈ lw_all := lw_g (lw_at lw_m1 122 rfl) rfl
theorem q218 : (Jvm.Cond.soleField "TouchShelf$Sets" "near") ∈ lw_all := lw_g (lw_at lw_m1 123 rfl) rfl
theorem q219 : (Jvm.Cond.lays "TouchShelf$Sets" "TouchShelf$Sets" "best" "I") ∈ lw_all := lw_g (lw_at lw_m1 124 rfl) rfl
theorem q220 : (Jvm.Cond.soleField "TouchShelf$Sets" "best") ∈ lw_all := lw_g (lw_at lw_m1 125 rfl) rfl
theorem q221 : (Jvm.Cond.lays "TouchShelf$Sets" "TouchShelf$Sets" "size" "I") ∈ lw_all := lw_g (lw_at lw_m1 126 rfl) rfl
theorem q222 : (Jvm.Cond.soleField "TouchShelf$Sets" "size") ∈ lw_all := lw_g (lw_at lw_m1 127 rfl) rfl
theorem q223 : (Jvm.Cond.superclass "TouchShelf$Sets" "java/lang/Object") ∈ lw_all := lw_g (lw_at lw_m1 128 rfl) rfl
theorem q758 : (Jvm.Cond.selects "TouchShelf$Sets" ({ cls := "java/lang/Object", name := "getClass", desc := "()Ljava/lang/Class;" } : Jvm.MethodName) ({ cls := "java/lang/Object", name := "getClass", desc := "()Ljava/lang/Class;" } : Jvm.MethodName)) ∈ lw_all := lw_g (lw_at lw_m3 183 rfl) rfl
theorem q1268 : (Jvm.Cond.instanceMethod ({ cls := "TouchShelf$Sets", name := "most", desc := "(IIII)I" } : Jvm.MethodName)) ∈ lw_all := lw_g (lw_at lw_m5 213 rfl) rfl
theorem q1269 : (Jvm.Cond.selects "TouchShelf$Sets" ({ cls := "TouchShelf$Sets", name := "most", desc := "(IIII)I" } : Jvm.MethodName) ({ cls := "TouchShelf$Sets", name := "most", desc := "(IIII)I" } : Jvm.MethodName)) ∈ lw_all := lw_g (lw_at lw_m5 214 rfl) rfl
theorem q1270 : (Jvm.Cond.code ({ cls := "TouchShelf$Sets", name := "most", desc := "(IIII)I" } : Jvm.MethodName) prog_13_method_2_code (7 : Nat) (Option.some Jvm.ClassFile.FieldType.int)) ∈ lw_all := lw_g (lw_at lw_m5 215 rfl) rfl
theorem q1271 : (Jvm.Cond.methodLinkNest "TouchShelf$Sets" (15 : Nat) ({ cls := "TouchShelf", name := "off", desc := "(II)I" } : Jvm.MethodName) "TouchShelf") ∈ lw_tbl := lw_at lw_m5 216 rfl
theorem q1272 : (Jvm.Cond.methodLink "TouchShelf$Sets" (23 : Nat) ({ cls := "TouchShelf$Sets", name := "grows", desc := "(II)V" } : Jvm.MethodName)) ∈ lw_all := lw_g (lw_at lw_m5 217 rfl) rfl
theorem q1273 : (Jvm.Cond.privateMethod ({ cls := "TouchShelf$Sets", name := "grows", desc := "(II)V" } : Jvm.MethodName)) ∈ lw_tbl := lw_at lw_m5 218 rfl
theorem q1274 : (Jvm.Cond.instanceMethod ({ cls := "TouchShelf$Sets", name := "grows", desc := "(II)V" } : Jvm.MethodName)) ∈ lw_all := lw_g (lw_at lw_m5 219 rfl) rfl
theorem q1275 : (Jvm.Cond.code ({ cls := "TouchShelf$Sets", name := "grows", desc := "(II)V" } : Jvm.MethodName) prog_13_method_3_code (4 : Nat) (Option.none : Option Jvm.ClassFile.FieldType)) ∈ lw_all := lw_g (lw_at lw_m5 220 rfl) rfl
theorem q1276 : (Jvm.Cond.methodLink "TouchShelf$Sets" (30 : Nat) ({ cls := "java/lang/Integer", name := "bitCount", desc := "(I)I" } : Jvm.MethodName)) ∈ lw_all := lw_g (lw_at lw_m5 221 rfl) rfl
theorem q1277 : (Jvm.Cond.methodLink "TouchShelf$Sets" (36 : Nat) ({ cls := "java/lang/Integer", name := "numberOfTrailingZeros", desc := "(I)I" } : Jvm.MethodName)) ∈ lw_all := lw_g (lw_at lw_m5 222 rfl) rfl
theorem q2286 : (Jvm.Cond.castable "TouchShelf$Sets" "java/lang/Object") ∈ lw_tbl := lw_at lw_m10 31 rfl
theorem in_X2 : ∀ w ∈ wsX20, w ∈ lw_all := lw_in wsX20 [217, 219, 221] (by decide +kernel) (by decide +kernel)
theorem q102 : (Jvm.Cond.initialized "TouchShelfModel") ∈ lw_all := lw_g (lw_at lw_m1 7 rfl) rfl
theorem q763 : (Jvm.Cond.selects "TouchShelfModel" ({ cls := "java/lang/Object", name := "getClass", desc := "()Ljava/lang/Class;" } : Jvm.MethodName) ({ cls := "java/lang/Object", name := "getClass", desc := "()Ljava/lang/Class;" } : Jvm.MethodName)) ∈ lw_all := lw_g (lw_at lw_m3 188 rfl) rfl
theorem q1616 : (Jvm.Cond.instantiable "TouchShelfModel" (62 : Nat)) ∈ lw_all := lw_g (lw_at lw_m7 81 rfl) rfl
theorem q1618 : (Jvm.Cond.instanceMethod ({ cls := "TouchShelfModel", name := "<init>", desc := "()V" } : Jvm.MethodName)) ∈ lw_all := lw_g (lw_at lw_m7 83 rfl) rfl
theorem q1619 : (Jvm.Cond.code ({ cls := "TouchShelfModel", name := "<init>", desc := "()V" } : Jvm.MethodName) prog_19_method_1_code (1 : Nat) (Option.none : Option Jvm.ClassFile.FieldType)) ∈ lw_all := lw_g (lw_at lw_m7 84 rfl) rfl
theorem q1620 : (Jvm.Cond.methodLink "TouchShelfModel" (1 : Nat) ({ cls := "java/lang/Object", name := "<init>", desc := "()V" } : Jvm.MethodName)) ∈ lw_all := lw_g (lw_at lw_m7 85 rfl) rfl
theorem q1621 : (Jvm.Cond.constant "TouchShelfModel" (53 : Nat) (131072 : Int32)) ∈ lw_all := lw_g (lw_at lw_m7 86 rfl) rfl
theorem q1622 : (Jvm.Cond.constant "TouchShelfModel" (61 : Nat) (40400 : Int32)) ∈ lw_all := lw_g (lw_at lw_m7 87 rfl) rfl
theorem q1623 : (Jvm.Cond.fieldLink "TouchShelfModel" (111 : Nat) "TouchShelfModel" "code" "I") ∈ lw_all := lw_g (lw_at lw_m7 88 rfl) rfl
theorem q1624 : (Jvm.Cond.fieldLink "TouchShelfModel" (7 : Nat) "TouchShelfModel" "tape" "[B") ∈ lw_all := lw_g (lw_at lw_m7 89 rfl) rfl
theorem q1625 : (Jvm.Cond.fieldLink "TouchShelfModel" (13 : Nat) "TouchShelfModel" "size" "[I") ∈ lw_all := lw_g (lw_at lw_m7 90 rfl) rfl
theorem q1626 : (Jvm.Cond.fieldLink "TouchShelfModel" (17 : Nat) "TouchShelfModel" "fault" "[I") ∈ lw_all := lw_g (lw_at lw_m7 91 rfl) rfl
theorem q1627 : (Jvm.Cond.fieldLink "TouchShelfModel" (20 : Nat) "TouchShelfModel" "faultPlace" "[I") ∈ lw_all := lw_g (lw_at lw_m7 92 rfl) rfl
theorem q1628 : (Jvm.Cond.fieldLink "TouchShelfModel" (23 : Nat) "TouchShelfModel" "many" "[I") ∈ lw_all := lw_g (lw_at lw_m7 93 rfl) rfl
theorem q1629 : (Jvm.Cond.fieldLink "TouchShelfModel" (26 : Nat) "TouchShelfModel" "libraries" "[I") ∈ lw_all := lw_g (lw_at lw_m7 94 rfl) rfl
theorem q1630 : (Jvm.Cond.fieldLink "TouchShelfModel" (29 : Nat) "TouchShelfModel" "books" "[I") ∈ lw_all := lw_g (lw_at lw_m7 95 rfl) rfl
theorem q1631 : (Jvm.Cond.fieldLink "TouchShelfModel" (32 : Nat) "TouchShelfModel" "rounds" "[I") ∈ lw_all := lw_g (lw_at lw_m7 96 rfl) rfl
theorem q1632 : (Jvm.Cond.fieldLink "TouchShelfModel" (131 : Nat) "TouchShelfModel" "reached" "I") ∈ lw_all := lw_g (lw_at lw_m7 97 rfl) rfl
theorem q1633 : (Jvm.Cond.fieldLink "TouchShelfModel" (134 : Nat) "TouchShelfModel" "length" "I") ∈ lw_all := lw_g (lw_at lw_m7 98 rfl) rfl
theorem q1634 : (Jvm.Cond.fieldLink "TouchShelfModel" (141 : Nat) "TouchShelfModel" "begins" "I") ∈ lw_all := lw_g (lw_at lw_m7 99 rfl) rfl
theorem q1635 : (Jvm.Cond.fieldLink "TouchShelfModel" (148 : Nat) "TouchShelfModel" "sort" "I") ∈ lw_all := lw_g (lw_at lw_m7 100 rfl) rfl
theorem q1636 : (Jvm.Cond.fieldLink "TouchShelfModel" (151 : Nat) "TouchShelfModel" "value" "I") ∈ lw_all := lw_g (lw_at lw_m7 101 rfl) rfl
theorem q1637 : (Jvm.Cond.fieldLink "TouchShelfModel" (144 : Nat) "TouchShelfModel" "word" "J") ∈ lw_all := lw_g (lw_at lw_m7 102 rfl) rfl
theorem q1638 : (Jvm.Cond.fieldLink "TouchShelfModel" (154 : Nat) "TouchShelfModel" "wrongAt" "I") ∈ lw_all := lw_g (lw_at lw_m7 103 rfl) rfl
theorem q1639 : (Jvm.Cond.fieldLink "TouchShelfModel" (157 : Nat) "TouchShelfModel" "laterFault" "I") ∈ lw_all := lw_g (lw_at lw_m7 104 rfl) rfl
theorem q1640 : (Jvm.Cond.fieldLink "TouchShelfModel" (160 : Nat) "TouchShelfModel" "laterPlace" "I") ∈ lw_all := lw_g (lw_at lw_m7 105 rfl) rfl
theorem q1641 : (Jvm.Cond.fieldLink "TouchShelfModel" (35 : Nat) "TouchShelfModel" "told" "[I") ∈ lw_all := lw_g (lw_at lw_m7 106 rfl) rfl
theorem q1642 : (Jvm.Cond.fieldLink "TouchShelfModel" (38 : Nat) "TouchShelfModel" "read" "[I") ∈ lw_all := lw_g (lw_at lw_m7 107 rfl) rfl
theorem q1643 : (Jvm.Cond.fieldLink "TouchShelfModel" (178 : Nat) "TouchShelfModel" "greatest" "I") ∈ lw_all := lw_g (lw_at lw_m7 108 rfl) rfl
theorem q1644 : (Jvm.Cond.fieldLink "TouchShelfModel" (234 : Nat) "TouchShelfModel" "bits" "I") ∈ lw_all := lw_g (lw_at lw_m7 109 rfl) rfl
theorem q1645 : (Jvm.Cond.fieldLink "TouchShelfModel" (237 : Nat) "TouchShelfModel" "wear" "I") ∈ lw_all := lw_g (lw_at lw_m7 110 rfl) rfl
theorem q1646 : (Jvm.Cond.fieldLink "TouchShelfModel" (240 : Nat) "TouchShelfModel" "rate" "I") ∈ lw_all := lw_g (lw_at lw_m7 111 rfl) rfl
theorem q1647 : (Jvm.Cond.fieldLink "TouchShelfModel" (243 : Nat) "TouchShelfModel" "shelves" "I") ∈ lw_all := lw_g (lw_at lw_m7 112 rfl) rfl
theorem q1648 : (Jvm.Cond.fieldLink "TouchShelfModel" (41 : Nat) "TouchShelfModel" "places" "[I") ∈ lw_all := lw_g (lw_at lw_m7 113 rfl) rfl
theorem q1649 : (Jvm.Cond.fieldLink "TouchShelfModel" (44 : Nat) "TouchShelfModel" "weight" "[I") ∈ lw_all := lw_g (lw_at lw_m7 114 rfl) rfl
theorem q1650 : (Jvm.Cond.fieldLink "TouchShelfModel" (47 : Nat) "TouchShelfModel" "mark" "[I") ∈ lw_all := lw_g (lw_at lw_m7 115 rfl) rfl
theorem q1651 : (Jvm.Cond.fieldLink "TouchShelfModel" (50 : Nat) "TouchShelfModel" "begun" "[I") ∈ lw_all := lw_g (lw_at lw_m7 116 rfl) rfl
theorem q1652 : (Jvm.Cond.fieldLink "TouchShelfModel" (54 : Nat) "TouchShelfModel" "known" "[J") ∈ lw_all := lw_g (lw_at lw_m7 117 rfl) rfl
theorem q1653 : (Jvm.Cond.fieldLink "TouchShelfModel" (58 : Nat) "TouchShelfModel" "far" "[B") ∈ lw_all := lw_g (lw_at lw_m7 118 rfl) rfl
theorem q1654 : (Jvm.Cond.fieldLink "TouchShelfModel" (62 : Nat) "TouchShelfModel" "queue" "[J") ∈ lw_all := lw_g (lw_at lw_m7 119 rfl) rfl
theorem q1655 : (Jvm.Cond.fieldLink "TouchShelfModel" (65 : Nat) "TouchShelfModel" "cells" "[I") ∈ lw_all := lw_g (lw_at lw_m7 120 rfl) rfl
theorem q1656 : (Jvm.Cond.fieldLink "TouchShelfModel" (68 : Nat) "TouchShelfModel" "sorted" "[I") ∈ lw_all := lw_g (lw_at lw_m7 121 rfl) rfl
theorem q1657 : (Jvm.Cond.fieldLink "TouchShelfModel" (290 : Nat) "TouchShelfModel" "wide" "I") ∈ lw_all := lw_g (lw_at lw_m7 122 rfl) rfl
theorem q1658 : (Jvm.Cond.fieldLink "TouchShelfModel" (287 : Nat) "TouchShelfModel" "queued" "I") ∈ lw_all := lw_g (lw_at lw_m7 123 rfl) rfl
theorem q1659 : (Jvm.Cond.fieldLink "TouchShelfModel" (312 : Nat) "TouchShelfModel" "firstFrom" "I") ∈ lw_all := lw_g (lw_at lw_m7 124 rfl) rfl
theorem q1660 : (Jvm.Cond.fieldLink "TouchShelfModel" (315 : Nat) "TouchShelfModel" "firstTo" "I") ∈ lw_all := lw_g (lw_at lw_m7 125 rfl) rfl
theorem q1661 : (Jvm.Cond.fieldLink "TouchShelfModel" (330 : Nat) "TouchShelfModel" "row" "I") ∈ lw_all := lw_g (lw_at lw_m7 126 rfl) rfl
theorem q1662 : (Jvm.Cond.fieldLink "TouchShelfModel" (71 : Nat) "TouchShelfModel" "rowMark" "[I") ∈ lw_all := lw_g (lw_at lw_m7 127 rfl) rfl
theorem q1663 : (Jvm.Cond.fieldLink "TouchShelfModel" (74 : Nat) "TouchShelfModel" "rises" "[I") ∈ lw_all := lw_g (lw_at lw_m7 128 rfl) rfl
theorem q1664 : (Jvm.Cond.fieldLink "TouchShelfModel" (77 : Nat) "TouchShelfModel" "near" "[J") ∈ lw_all := lw_g (lw_at lw_m7 129 rfl) rfl
theorem q1665 : (Jvm.Cond.fieldLink "TouchShelfModel" (80 : Nat) "TouchShelfModel" "left" "[J") ∈ lw_all := lw_g (lw_at lw_m7 130 rfl) rfl
theorem q1666 : (Jvm.Cond.fieldLink "TouchShelfModel" (83 : Nat) "TouchShelfModel" "chosen" "[I") ∈ lw_all := lw_g (lw_at lw_m7 131 rfl) rfl
theorem q1667 : (Jvm.Cond.fieldLink "TouchShelfModel" (361 : Nat) "TouchShelfModel" "bestSet" "J") ∈ lw_all := lw_g (lw_at lw_m7 132 rfl) rfl
theorem q1668 : (Jvm.Cond.fieldLink "TouchShelfModel" (86 : Nat) "TouchShelfModel" "order" "[I") ∈ lw_all := lw_g (lw_at lw_m7 133 rfl) rfl
theorem q1669 : (Jvm.Cond.fieldLink "TouchShelfModel" (383 : Nat) "TouchShelfModel" "book" "I") ∈ lw_all := lw_g (lw_at lw_m7 134 rfl) rfl
theorem q1670 : (Jvm.Cond.fieldLink "TouchShelfModel" (89 : Nat) "TouchShelfModel" "felt" "[J") ∈ lw_all := lw_g (lw_at lw_m7 135 rfl) rfl
theorem q1671 : (Jvm.Cond.fieldLink "TouchShelfModel" (92 : Nat) "TouchShelfModel" "lent" "[I") ∈ lw_all := lw_g (lw_at lw_m7 136 rfl) rfl
theorem q1672 : (Jvm.Cond.fieldLink "TouchShelfModel" (392 : Nat) "TouchShelfModel" "wrong" "I") ∈ lw_all := lw_g (lw_at lw_m7 137 rfl) rfl
theorem q1673 : (Jvm.Cond.fieldLink "TouchShelfModel" (395 : Nat) "TouchShelfModel" "firstWrong" "I") ∈ lw_all := lw_g (lw_at lw_m7 138 rfl) rfl
theorem q1674 : (Jvm.Cond.fieldLink "TouchShelfModel" (398 : Nat) "TouchShelfModel" "steps" "I") ∈ lw_all := lw_g (lw_at lw_m7 139 rfl) rfl
theorem q1675 : (Jvm.Cond.fieldLink "TouchShelfModel" (401 : Nat) "TouchShelfModel" "handShelf" "I") ∈ lw_all := lw_g (lw_at lw_m7 140 rfl) rfl
theorem q1676 : (Jvm.Cond.fieldLink "TouchShelfModel" (404 : Nat) "TouchShelfModel" "handPlace" "I") ∈ lw_all := lw_g (lw_at lw_m7 141 rfl) rfl
theorem q1677 : (Jvm.Cond.fieldLink "TouchShelfModel" (95 : Nat) "TouchShelfModel" "cost" "[I") ∈ lw_all := lw_g (lw_at lw_m7 142 rfl) rfl
theorem q1678 : (Jvm.Cond.fieldLink "TouchShelfModel" (439 : Nat) "TouchShelfModel" "readers" "I") ∈ lw_all := lw_g (lw_at lw_m7 143 rfl) rfl
theorem q1679 : (Jvm.Cond.fieldLink "TouchShelfModel" (442 : Nat) "TouchShelfModel" "asks" "I") ∈ lw_all := lw_g (lw_at lw_m7 144 rfl) rfl
theorem q1680 : (Jvm.Cond.fieldLink "TouchShelfModel" (98 : Nat) "TouchShelfModel" "spot" "[I") ∈ lw_all := lw_g (lw_at lw_m7 145 rfl) rfl
theorem q1681 : (Jvm.Cond.fieldLink "TouchShelfModel" (101 : Nat) "TouchShelfModel" "ask" "[I") ∈ lw_all := lw_g (lw_at lw_m7 146 rfl) rfl
theorem q1682 : (Jvm.Cond.fieldLink "TouchShelfModel" (104 : Nat) "TouchShelfModel" "who" "[I") ∈ lw_all := lw_g (lw_at lw_m7 147 rfl) rfl
theorem q1683 : (Jvm.Cond.fieldLink "TouchShelfModel" (471 : Nat) "TouchShelfModel" "seed" "I") ∈ lw_all := lw_g (lw_at lw_m7 148 rfl) rfl
theorem q1684 : (Jvm.Cond.fieldLink "TouchShelfModel" (107 : Nat) "TouchShelfModel" "kept" "[Z") ∈ lw_all := lw_g (lw_at lw_m7 149 rfl) rfl
theorem q1685 : (Jvm.Cond.lays "TouchShelfModel" "TouchShelfModel" "code" "I") ∈ lw_all := lw_g (lw_at lw_m7 150 rfl) rfl
theorem q1686 : (Jvm.Cond.soleField "TouchShelfModel" "code") ∈ lw_all := lw_g (lw_at lw_m7 151 rfl) rfl
theorem q1687 : (Jvm.Cond.laysFinal "TouchShelfModel" "TouchShelfModel" "tape" "[B") ∈ lw_all := lw_g (lw_at lw_m7 152 rfl) rfl
theorem q1688 : (Jvm.Cond.soleField "TouchShelfModel" "tape") ∈ lw_all := lw_g (lw_at lw_m7 153 rfl) rfl
theorem q1689 : (Jvm.Cond.laysFinal "TouchShelfModel" "TouchShelfModel" "size" "[I") ∈ lw_all := lw_g (lw_at lw_m7 154 rfl) rfl
theorem q1690 : (Jvm.Cond.soleField "TouchShelfModel" "size") ∈ lw_all := lw_g (lw_at lw_m7 155 rfl) rfl
theorem q1691 : (Jvm.Cond.laysFinal "TouchShelfModel" "TouchShelfModel" "fault" "[I") ∈ lw_all := lw_g (lw_at lw_m7 156 rfl) rfl
theorem q1692 : (Jvm.Cond.soleField "TouchShelfModel" "fault") ∈ lw_all := lw_g (lw_at lw_m7 157 rfl) rfl
theorem q1693 : (Jvm.Cond.laysFinal "TouchShelfModel" "TouchShelfModel" "faultPlace" "[I") ∈ lw_all := lw_g (lw_at lw_m7 158 rfl) rfl
theorem q1694 : (Jvm.Cond.soleField "TouchShelfModel" "faultPlace") ∈ lw_all := lw_g (lw_at lw_m7 159 rfl) rfl
theorem q1695 : (Jvm.Cond.laysFinal "TouchShelfModel" "TouchShelfModel" "many" "[I") ∈ lw_all := lw_g (lw_at lw_m7 160 rfl) rfl
theorem q1696 : (Jvm.Cond.soleField "TouchShelfModel" "many") ∈ lw_all := lw_g (lw_at lw_m7 161 rfl) rfl
theorem q1697 : (Jvm.Cond.laysFinal "TouchShelfModel" "TouchShelfModel" "libraries" "[I") ∈ lw_all := lw_g (lw_at lw_m7 162 rfl) rfl
theorem q1698 : (Jvm.Cond.soleField "TouchShelfModel" "libraries") ∈ lw_all := lw_g (lw_at lw_m7 163 rfl) rfl
theorem q1699 : (Jvm.Cond.laysFinal "TouchShelfModel" "TouchShelfModel" "books" "[I") ∈ lw_all := lw_g (lw_at lw_m7 164 rfl) rfl
theorem q1700 : (Jvm.Cond.soleField "TouchShelfModel" "books") ∈ lw_all := lw_g (lw_at lw_m7 165 rfl) rfl
theorem q1701 : (Jvm.Cond.laysFinal "TouchShelfModel" "TouchShelfModel" "rounds" "[I") ∈ lw_all := lw_g (lw_at lw_m7 166 rfl) rfl
theorem q1702 : (Jvm.Cond.soleField "TouchShelfModel" "rounds") ∈ lw_all := lw_g (lw_at lw_m7 167 rfl) rfl
theorem q1703 : (Jvm.Cond.lays "TouchShelfModel" "TouchShelfModel" "reached" "I") ∈ lw_all := lw_g (lw_at lw_m7 168 rfl) rfl
theorem q1704 : (Jvm.Cond.soleField "TouchShelfModel" "reached") ∈ lw_all := lw_g (lw_at lw_m7 169 rfl) rfl
theorem q1705 : (Jvm.Cond.lays "TouchShelfModel" "TouchShelfModel" "length" "I") ∈ lw_all := lw_g (lw_at lw_m7 170 rfl) rfl
theorem q1706 : (Jvm.Cond.soleField "TouchShelfModel" "length") ∈ lw_all := lw_g (lw_at lw_m7 171 rfl) rfl
theorem q1707 : (Jvm.Cond.lays "TouchShelfModel" "TouchShelfModel" "begins" "I") ∈ lw_all := lw_g (lw_at lw_m7 172 rfl) rfl
theorem q1708 : (Jvm.Cond.soleField "TouchShelfModel" "begins") ∈ lw_all := lw_g (lw_at lw_m7 173 rfl) rfl
theorem q1709 : (Jvm.Cond.lays "TouchShelfModel" "TouchShelfModel" "sort" "I") ∈ lw_all := lw_g (lw_at lw_m7 174 rfl) rfl
theorem q1710 : (Jvm.Cond.soleField "TouchShelfModel" "sort") ∈ lw_all := lw_g (lw_at lw_m7 175 rfl) rfl
theorem q1711 : (Jvm.Cond.lays "TouchShelfModel" "TouchShelfModel" "value" "I") ∈ lw_all := lw_g (lw_at lw_m7 176 rfl) rfl
theorem q1712 : (Jvm.Cond.soleField "TouchShelfModel" "value") ∈ lw_all := lw_g (lw_at lw_m7 177 rfl) rfl
theorem q1713 : (Jvm.Cond.lays "TouchShelfModel" "TouchShelfModel" "word" "J") ∈ lw_all := lw_g (lw_at lw_m7 178 rfl) rfl
theorem q1714 : (Jvm.Cond.soleField "TouchShelfModel" "word") ∈ lw_all := lw_g (lw_at lw_m7 179 rfl) rfl
theorem q1715 : (Jvm.Cond.lays "TouchShelfModel" "TouchShelfModel" "wrongAt" "I") ∈ lw_all := lw_g (lw_at lw_m7 180 rfl) rfl
theorem q1716 : (Jvm.Cond.soleField "TouchShelfModel" "wrongAt") ∈ lw_all := lw_g (lw_at lw_m7 181 rfl) rfl
theorem q1717 : (Jvm.Cond.lays "TouchShelfModel" "TouchShelfModel" "laterFault" "I") ∈ lw_all := lw_g (lw_at lw_m7 182 rfl) rfl
theorem q1718 : (Jvm.Cond.soleField "TouchShelfModel" "laterFault") ∈ lw_all := lw_g (lw_at lw_m7 183 rfl) rfl
theorem q1719 : (Jvm.Cond.lays "TouchShelfModel" "TouchShelfModel" "laterPlace" "I") ∈ lw_all := lw_g (lw_at lw_m7 184 rfl) rfl
theorem q1720 : (Jvm.Cond.soleField "TouchShelfModel" "laterPlace") ∈ lw_all := lw_g (lw_at lw_m7 185 rfl) rfl
theorem q1721 : (Jvm.Cond.laysFinal "TouchShelfModel" "TouchShelfModel" "told" "[I") ∈ lw_all := lw_g (lw_at lw_m7 186 rfl) rfl
theorem q1722 : (Jvm.Cond.soleField "TouchShelfModel" "told") ∈ lw_all := lw_g (lw_at lw_m7 187 rfl) rfl
theorem q1723 : (Jvm.Cond.laysFinal "TouchShelfModel" "TouchShelfModel" "read" "[I") ∈ lw_all := lw_g (lw_at lw_m7 188 rfl) rfl
theorem q1724 : (Jvm.Cond.soleField "TouchShelfModel" "read") ∈ lw_all := lw_g (lw_at lw_m7 189 rfl) rfl
theorem q1725 : (Jvm.Cond.lays "TouchShelfModel" "TouchShelfModel" "greatest" "I") ∈ lw_all := lw_g (lw_at lw_m7 190 rfl) rfl
theorem q1726 : (Jvm.Cond.soleField "TouchShelfModel" "greatest") ∈ lw_all := lw_g (lw_at lw_m7 191 rfl) rfl
theorem q1727 : (Jvm.Cond.lays "TouchShelfModel" "TouchShelfModel" "bits" "I") ∈ lw_all := lw_g (lw_at lw_m7 192 rfl) rfl
theorem q1728 : (Jvm.Cond.soleField "TouchShelfModel" "bits") ∈ lw_all := lw_g (lw_at lw_m7 193 rfl) rfl
theorem q1729 : (Jvm.Cond.lays "TouchShelfModel" "TouchShelfModel" "wear" "I") ∈ lw_all := lw_g (lw_at lw_m7 194 rfl) rfl
theorem q1730 : (Jvm.Cond.soleField "TouchShelfModel" "wear") ∈ lw_all := lw_g (lw_at lw_m7 195 rfl) rfl
theorem q1731 : (Jvm.Cond.lays "TouchShelfModel" "TouchShelfModel" "rate" "I") ∈ lw_all := lw_g (lw_at lw_m7 196 rfl) rfl
theorem q1732 : (Jvm.Cond.soleField "TouchShelfModel" "rate") ∈ lw_all := lw_g (lw_at lw_m7 197 rfl) rfl
theorem q1733 : (Jvm.Cond.lays "TouchShelfModel" "TouchShelfModel" "shelves" "I") ∈ lw_all := lw_g (lw_at lw_m7 198 rfl) rfl
theorem q1734 : (Jvm.Cond.soleField "TouchShelfModel" "shelves") ∈ lw_all := lw_g (lw_at lw_m7 199 rfl) rfl
theorem q1735 : (Jvm.Cond.laysFinal "TouchShelfModel" "TouchShelfModel" "places" "[I") ∈ lw_all := lw_g (lw_at lw_m7 200 rfl) rfl
theorem q1736 : (Jvm.Cond.soleField "TouchShelfModel" "places") ∈ lw_all := lw_g (lw_at lw_m7 201 rfl) rfl
theorem q1737 : (Jvm.Cond.laysFinal "TouchShelfModel" "TouchShelfModel" "weight" "[I") ∈ lw_all := lw_g (lw_at lw_m7 202 rfl) rfl
theorem q1738 : (Jvm.Cond.soleField "TouchShelfModel" "weight") ∈ lw_all := lw_g (lw_at lw_m7 203 rfl) rfl
theorem q1739 : (Jvm.Cond.laysFinal "TouchShelfModel" "TouchShelfModel" "mark" "[I") ∈ lw_all := lw_g (lw_at lw_m7 204 rfl) rfl
theorem q1740 : (Jvm.Cond.soleField "TouchShelfModel" "mark") ∈ lw_all := lw_g (lw_at lw_m7 205 rfl) rfl
theorem q1741 : (Jvm.Cond.laysFinal "TouchShelfModel" "TouchShelfModel" "begun" "[I") ∈ lw_all := lw_g (lw_at lw_m7 206 rfl) rfl
theorem q1742 : (Jvm.Cond.soleField "TouchShelfModel" "begun") ∈ lw_all := lw_g (lw_at lw_m7 207 rfl) rfl
theorem q1743 : (Jvm.Cond.laysFinal "TouchShelfModel" "TouchShelfModel" "known" "[J") ∈ lw_all := lw_g (lw_at lw_m7 208 rfl) rfl
theorem q1744 : (Jvm.Cond.soleField "TouchShelfModel" "known") ∈ lw_all := lw_g (lw_at lw_m7 209 rfl) rfl
theorem q1745 : (Jvm.Cond.laysFinal "TouchShelfModel" "TouchShelfModel" "far" "[B") ∈ lw_all := lw_g (lw_at lw_m7 210 rfl) rfl
theorem q1746 : (Jvm.Cond.soleField "TouchShelfModel" "far") ∈ lw_all := lw_g (lw_at lw_m7 211 rfl) rfl
theorem q1747 : (Jvm.Cond.laysFinal "TouchShelfModel" "TouchShelfModel" "queue" "[J") ∈ lw_all := lw_g (lw_at lw_m7 212 rfl) rfl
theorem q1748 : (Jvm.Cond.soleField "TouchShelfModel" "queue") ∈ lw_all := lw_g (lw_at lw_m7 213 rfl) rfl
theorem q1749 : (Jvm.Cond.laysFinal "TouchShelfModel" "TouchShelfModel" "cells" "[I") ∈ lw_all := lw_g (lw_at lw_m7 214 rfl) rfl
theorem q1750 : (Jvm.Cond.soleField "TouchShelfModel" "cells") ∈ lw_all := lw_g (lw_at lw_m7 215 rfl) rfl
theorem q1751 : (Jvm.Cond.laysFinal "TouchShelfModel" "TouchShelfModel" "sorted" "[I") ∈ lw_all := lw_g (lw_at lw_m7 216 rfl) rfl
theorem q1752 : (Jvm.Cond.soleField "TouchShelfModel" "sorted") ∈ lw_all := lw_g (lw_at lw_m7 217 rfl) rfl
theorem q1753 : (Jvm.Cond.lays "TouchShelfModel" "TouchShelfModel" "wide" "I") ∈ lw_all := lw_g (lw_at lw_m7 218 rfl) rfl
theorem q1754 : (Jvm.Cond.soleField "TouchShelfModel" "wide") ∈ lw_all := lw_g (lw_at lw_m7 219 rfl) rfl
theorem q1755 : (Jvm.Cond.lays "TouchShelfModel" "TouchShelfModel" "queued" "I") ∈ lw_all := lw_g (lw_at lw_m7 220 rfl) rfl
theorem q1756 : (Jvm.Cond.soleField "TouchShelfModel" "queued") ∈ lw_all := lw_g (lw_at lw_m7 221 rfl) rfl
theorem q1757 : (Jvm.Cond.lays "TouchShelfModel" "TouchShelfModel" "firstFrom" "I") ∈ lw_all := lw_g (lw_at lw_m7 222 rfl) rfl
theorem q1758 : (Jvm.Cond.soleField "TouchShelfModel" "firstFrom") ∈ lw_all := lw_g (lw_at lw_m7 223 rfl) rfl
theorem q1759 : (Jvm.Cond.lays "TouchShelfModel" "TouchShelfModel" "firstTo" "I") ∈ lw_all := lw_g (lw_at lw_m7 224 rfl) rfl
theorem q1760 : (Jvm.Cond.soleField "TouchShelfModel" "firstTo") ∈ lw_all := lw_g (lw_at lw_m7 225 rfl) rfl
theorem q1761 : (Jvm.Cond.lays "TouchShelfModel" "TouchShelfModel" "row" "I") ∈ lw_all := lw_g (lw_at lw_m7 226 rfl) rfl
theorem q1762 : (Jvm.Cond.soleField "TouchShelfModel" "row") ∈ lw_all := lw_g (lw_at lw_m7 227 rfl) rfl
theorem q1763 : (Jvm.Cond.laysFinal "TouchShelfModel" "TouchShelfModel" "rowMark" "[I") ∈ lw_all := lw_g (lw_at lw_m7 228 rfl) rfl
theorem q1764 : (Jvm.Cond.soleField "TouchShelfModel" "rowMark") ∈ lw_all := lw_g (lw_at lw_m7 229 rfl) rfl
theorem q1765 : (Jvm.Cond.laysFinal "TouchShelfModel" "TouchShelfModel" "rises" "[I") ∈ lw_all := lw_g (lw_at lw_m7 230 rfl) rfl
theorem q1766 : (Jvm.Cond.soleField "TouchShelfModel" "rises") ∈ lw_all := lw_g (lw_at lw_m7 231 rfl) rfl
theorem q1767 : (Jvm.Cond.laysFinal "TouchShelfModel" "TouchShelfModel" "near" "[J") ∈ lw_all := lw_g (lw_at lw_m7 232 rfl) rfl
theorem q1768 : (Jvm.Cond.soleField "TouchShelfModel" "near") ∈ lw_all := lw_g (lw_at lw_m7 233 rfl) rfl
theorem q1769 : (Jvm.Cond.laysFinal "TouchShelfModel" "TouchShelfModel" "left" "[J") ∈ lw_all := lw_g (lw_at lw_m7 234 rfl) rfl
theorem q1770 : (Jvm.Cond.soleField "TouchShelfModel" "left") ∈ lw_all := lw_g (lw_at lw_m7 235 rfl) rfl
theorem q1771 : (Jvm.Cond.laysFinal "TouchShelfModel" "TouchShelfModel" "chosen" "[I") ∈ lw_all := lw_g (lw_at lw_m7 236 rfl) rfl
theorem q1772 : (Jvm.Cond.soleField "TouchShelfModel" "chosen") ∈ lw_all := lw_g (lw_at lw_m7 237 rfl) rfl
theorem q1773 : (Jvm.Cond.lays "TouchShelfModel" "TouchShelfModel" "bestSet" "J") ∈ lw_all := lw_g (lw_at lw_m7 238 rfl) rfl
theorem q1774 : (Jvm.Cond.soleField "TouchShelfModel" "bestSet") ∈ lw_all := lw_g (lw_at lw_m7 239 rfl) rfl
theorem q1775 : (Jvm.Cond.laysFinal "TouchShelfModel" "TouchShelfModel" "order" "[I") ∈ lw_all := lw_g (lw_at lw_m8 0 rfl) rfl
theorem q1776 : (Jvm.Cond.soleField "TouchShelfModel" "order") ∈ lw_all := lw_g (lw_at lw_m8 1 rfl) rfl
theorem q1777 : (Jvm.Cond.lays "TouchShelfModel" "TouchShelfModel" "book" "I") ∈ lw_all := lw_g (lw_at lw_m8 2 rfl) rfl
theorem q1778 : (Jvm.Cond.soleField "TouchShelfModel" "book") ∈ lw_all := lw_g (lw_at lw_m8 3 rfl) rfl
theorem q1779 : (Jvm.Cond.laysFinal "TouchShelfModel" "TouchShelfModel" "felt" "[J") ∈ lw_all := lw_g (lw_at lw_m8 4 rfl) rfl
theorem q1780 : (Jvm.Cond.soleField "TouchShelfModel" "felt") ∈ lw_all := lw_g (lw_at lw_m8 5 rfl) rfl
theorem q1781 : (Jvm.Cond.laysFinal "TouchShelfModel" "TouchShelfModel" "lent" "[I") ∈ lw_all := lw_g (lw_at lw_m8 6 rfl) rfl
theorem q1782 : (Jvm.Cond.soleField "TouchShelfModel" "lent") ∈ lw_all := lw_g (lw_at lw_m8 7 rfl) rfl
theorem q1783 : (Jvm.Cond.lays "TouchShelfModel" "TouchShelfModel" "wrong" "I") ∈ lw_all := lw_g (lw_at lw_m8 8 rfl) rfl
theorem q1784 : (Jvm.Cond.soleField "TouchShelfModel" "wrong") ∈ lw_all := lw_g (lw_at lw_m8 9 rfl) rfl
theorem q1785 : (Jvm.Cond.lays "TouchShelfModel" "TouchShelfModel" "firstWrong" "I") ∈ lw_all := lw_g (lw_at lw_m8 10 rfl) rfl
theorem q1786 : (Jvm.Cond.soleField "TouchShelfModel" "firstWrong") ∈ lw_all := lw_g (lw_at lw_m8 11 rfl) rfl
theorem q1787 : (Jvm.Cond.lays "TouchShelfModel" "TouchShelfModel" "steps" "I") ∈ lw_all := lw_g (lw_at lw_m8 12 rfl) rfl
theorem q1788 : (Jvm.Cond.soleField "TouchShelfModel" "steps") ∈ lw_all := lw_g (lw_at lw_m8 13 rfl) rfl
theorem q1789 : (Jvm.Cond.lays "TouchShelfModel" "TouchShelfModel" "handShelf" "I") ∈ lw_all := lw_g (lw_at lw_m8 14 rfl) rfl
theorem q1790 : (Jvm.Cond.soleField "TouchShelfModel" "handShelf") ∈ lw_all := lw_g (lw_at lw_m8 15 rfl) rfl
theorem q1791 : (Jvm.Cond.lays "TouchShelfModel" "TouchShelfModel" "handPlace" "I") ∈ lw_all := lw_g (lw_at lw_m8 16 rfl) rfl
theorem q1792 : (Jvm.Cond.soleField "TouchShelfModel" "handPlace") ∈ lw_all := lw_g (lw_at lw_m8 17 rfl) rfl
theorem q1793 : (Jvm.Cond.laysFinal "TouchShelfModel" "TouchShelfModel" "cost" "[I") ∈ lw_all := lw_g (lw_at lw_m8 18 rfl) rfl
theorem q1794 : (Jvm.Cond.soleField "TouchShelfModel" "cost") ∈ lw_all := lw_g (lw_at lw_m8 19 rfl) rfl
theorem q1795 : (Jvm.Cond.lays "TouchShelfModel" "TouchShelfModel" "readers" "I") ∈ lw_all := lw_g (lw_at lw_m8 20 rfl) rfl
theorem q1796 : (Jvm.Cond.soleField "TouchShelfModel" "readers") ∈ lw_all := lw_g (lw_at lw_m8 21 rfl) rfl
theorem q1797 : (Jvm.Cond.lays "TouchShelfModel" "TouchShelfModel" "asks" "I") ∈ lw_all := lw_g (lw_at lw_m8 22 rfl) rfl
theorem q1798 : (Jvm.Cond.soleField "TouchShelfModel" "asks") ∈ lw_all := lw_g (lw_at lw_m8 23 rfl) rfl
theorem q1799 : (Jvm.Cond.laysFinal "TouchShelfModel" "TouchShelfModel" "spot" "[I") ∈ lw_all := lw_g (lw_at lw_m8 24 rfl) rfl
theorem q1800 : (Jvm.Cond.soleField "TouchShelfModel" "spot") ∈ lw_all := lw_g (lw_at lw_m8 25 rfl) rfl
theorem q1801 : (Jvm.Cond.laysFinal "TouchShelfModel" "TouchShelfModel" "ask" "[I") ∈ lw_all := lw_g (lw_at lw_m8 26 rfl) rfl
theorem q1802 : (Jvm.Cond.soleField "TouchShelfModel" "ask") ∈ lw_all := lw_g (lw_at lw_m8 27 rfl) rfl
theorem q1803 : (Jvm.Cond.laysFinal "TouchShelfModel" "TouchShelfModel" "who" "[I") ∈ lw_all := lw_g (lw_at lw_m8 28 rfl) rfl
theorem q1804 : (Jvm.Cond.soleField "TouchShelfModel" "who") ∈ lw_all := lw_g (lw_at lw_m8 29 rfl) rfl
theorem q1805 : (Jvm.Cond.lays "TouchShelfModel" "TouchShelfModel" "seed" "I") ∈ lw_all := lw_g (lw_at lw_m8 30 rfl) rfl
theorem q1806 : (Jvm.Cond.soleField "TouchShelfModel" "seed") ∈ lw_all := lw_g (lw_at lw_m8 31 rfl) rfl
theorem q1807 : (Jvm.Cond.laysFinal "TouchShelfModel" "TouchShelfModel" "kept" "[Z") ∈ lw_all := lw_g (lw_at lw_m8 32 rfl) rfl
theorem q1808 : (Jvm.Cond.soleField "TouchShelfModel" "kept") ∈ lw_all := lw_g (lw_at lw_m8 33 rfl) rfl
theorem q1809 : (Jvm.Cond.superclass "TouchShelfModel" "java/lang/Object") ∈ lw_all := lw_g (lw_at lw_m8 34 rfl) rfl
theorem q1812 : (Jvm.Cond.instanceMethod ({ cls := "TouchShelfModel", name := "feed", desc := "(IIIII)I" } : Jvm.MethodName)) ∈ lw_all := lw_g (lw_at lw_m8 37 rfl) rfl
theorem q1813 : (Jvm.Cond.selects "TouchShelfModel" ({ cls := "TouchShelfModel", name := "feed", desc := "(IIIII)I" } : Jvm.MethodName) ({ cls := "TouchShelfModel", name := "feed", desc := "(IIIII)I" } : Jvm.MethodName)) ∈ lw_all := lw_g (lw_at lw_m8 38 rfl) rfl
theorem q1814 : (Jvm.Cond.code ({ cls := "TouchShelfModel", name := "feed", desc := "(IIIII)I" } : Jvm.MethodName) prog_19_method_10_code (6 : Nat) (Option.some Jvm.ClassFile.FieldType.int)) ∈ lw_all := lw_g (lw_at lw_m8 39 rfl) rfl
theorem q1815 : (Jvm.Cond.methodLink "TouchShelfModel" (127 : Nat) ({ cls := "TouchShelfModel", name := "four", desc := "(I)V" } : Jvm.MethodName)) ∈ lw_all := lw_g (lw_at lw_m8 40 rfl) rfl
theorem q1816 : (Jvm.Cond.privateMethod ({ cls := "TouchShelfModel", name := "four", desc := "(I)V" } : Jvm.MethodName)) ∈ lw_tbl := lw_at lw_m8 41 rfl
theorem q1817 : (Jvm.Cond.instanceMethod ({ cls := "TouchShelfModel", name := "four", desc := "(I)V" } : Jvm.MethodName)) ∈ lw_all := lw_g (lw_at lw_m8 42 rfl) rfl
theorem q1818 : (Jvm.Cond.code ({ cls := "TouchShelfModel", name := "four", desc := "(I)V" } : Jvm.MethodName) prog_19_method_11_code (3 : Nat) (Option.none : Option Jvm.ClassFile.FieldType)) ∈ lw_all := lw_g (lw_at lw_m8 43 rfl) rfl
theorem q1820 : (Jvm.Cond.instanceMethod ({ cls := "TouchShelfModel", name := "end", desc := "(I)I" } : Jvm.MethodName)) ∈ lw_all := lw_g (lw_at lw_m8 45 rfl) rfl
theorem q1821 : (Jvm.Cond.selects "TouchShelfModel" ({ cls := "TouchShelfModel", name := "end", desc := "(I)I" } : Jvm.MethodName) ({ cls := "TouchShelfModel", name := "end", desc := "(I)I" } : Jvm.MethodName)) ∈ lw_all := lw_g (lw_at lw_m8 46 rfl) rfl
theorem q1822 : (Jvm.Cond.code ({ cls := "TouchShelfModel", name := "end", desc := "(I)I" } : Jvm.MethodName) prog_19_method_12_code (2 : Nat) (Option.some Jvm.ClassFile.FieldType.int)) ∈ lw_all := lw_g (lw_at lw_m8 47 rfl) rfl
theorem q1823 : (Jvm.Cond.methodLink "TouchShelfModel" (123 : Nat) ({ cls := "TouchShelfModel", name := "in", desc := "(III)Z" } : Jvm.MethodName)) ∈ lw_all := lw_g (lw_at lw_m8 48 rfl) rfl
theorem q1824 : (Jvm.Cond.static ({ cls := "TouchShelfModel", name := "in", desc := "(III)Z" } : Jvm.MethodName)) ∈ lw_all := lw_g (lw_at lw_m8 49 rfl) rfl
theorem q1825 : (Jvm.Cond.code ({ cls := "TouchShelfModel", name := "in", desc := "(III)Z" } : Jvm.MethodName) prog_19_method_3_code (3 : Nat) (Option.some Jvm.ClassFile.FieldType.boolean)) ∈ lw_all := lw_g (lw_at lw_m8 50 rfl) rfl
theorem q1827 : (Jvm.Cond.instanceMethod ({ cls := "TouchShelfModel", name := "text", desc := "(II)I" } : Jvm.MethodName)) ∈ lw_all := lw_g (lw_at lw_m8 52 rfl) rfl
theorem q1828 : (Jvm.Cond.selects "TouchShelfModel" ({ cls := "TouchShelfModel", name := "text", desc := "(II)I" } : Jvm.MethodName) ({ cls := "TouchShelfModel", name := "text", desc := "(II)I" } : Jvm.MethodName)) ∈ lw_all := lw_g (lw_at lw_m8 53 rfl) rfl
theorem q1829 : (Jvm.Cond.code ({ cls := "TouchShelfModel", name := "text", desc := "(II)I" } : Jvm.MethodName) prog_19_method_25_code (4 : Nat) (Option.some Jvm.ClassFile.FieldType.int)) ∈ lw_all := lw_g (lw_at lw_m8 54 rfl) rfl
theorem q1830 : (Jvm.Cond.methodLink "TouchShelfModel" (223 : Nat) ({ cls := "TouchShelfModel", name := "is", desc := "(II)Z" } : Jvm.MethodName)) ∈ lw_all := lw_g (lw_at lw_m8 55 rfl) rfl
theorem q1831 : (Jvm.Cond.privateMethod ({ cls := "TouchShelfModel", name := "is", desc := "(II)Z" } : Jvm.MethodName)) ∈ lw_tbl := lw_at lw_m8 56 rfl
theorem q1832 : (Jvm.Cond.instanceMethod ({ cls := "TouchShelfModel", name := "is", desc := "(II)Z" } : Jvm.MethodName)) ∈ lw_all := lw_g (lw_at lw_m8 57 rfl) rfl
theorem q1833 : (Jvm.Cond.code ({ cls := "TouchShelfModel", name := "is", desc := "(II)Z" } : Jvm.MethodName) prog_19_method_9_code (3 : Nat) (Option.some Jvm.ClassFile.FieldType.boolean)) ∈ lw_all := lw_g (lw_at lw_m8 58 rfl) rfl
theorem q1834 : (Jvm.Cond.methodLink "TouchShelfModel" (227 : Nat) ({ cls := "TouchShelfModel", name := "readText", desc := "(I)Z" } : Jvm.MethodName)) ∈ lw_all := lw_g (lw_at lw_m8 59 rfl) rfl
theorem q1835 : (Jvm.Cond.privateMethod ({ cls := "TouchShelfModel", name := "readText", desc := "(I)Z" } : Jvm.MethodName)) ∈ lw_tbl := lw_at lw_m8 60 rfl
theorem q1836 : (Jvm.Cond.instanceMethod ({ cls := "TouchShelfModel", name := "readText", desc := "(I)Z" } : Jvm.MethodName)) ∈ lw_all := lw_g (lw_at lw_m8 61 rfl) rfl
theorem q1837 : (Jvm.Cond.code ({ cls := "TouchShelfModel", name := "readText", desc := "(I)Z" } : Jvm.MethodName) prog_19_method_23_code (4 : Nat) (Option.some Jvm.ClassFile.FieldType.boolean)) ∈ lw_all := lw_g (lw_at lw_m8 62 rfl) rfl
theorem q1838 : (Jvm.Cond.methodLink "TouchShelfModel" (171 : Nat) ({ cls := "TouchShelfModel", name := "token", desc := "()V" } : Jvm.MethodName)) ∈ lw_all := lw_g (lw_at lw_m8 63 rfl) rfl
theorem q1839 : (Jvm.Cond.privateMethod ({ cls := "TouchShelfModel", name := "token", desc := "()V" } : Jvm.MethodName)) ∈ lw_tbl := lw_at lw_m8 64 rfl
theorem q1840 : (Jvm.Cond.instanceMethod ({ cls := "TouchShelfModel", name := "token", desc := "()V" } : Jvm.MethodName)) ∈ lw_all := lw_g (lw_at lw_m8 65 rfl) rfl
theorem q1841 : (Jvm.Cond.code ({ cls := "TouchShelfModel", name := "token", desc := "()V" } : Jvm.MethodName) prog_19_method_14_code (3 : Nat) (Option.none : Option Jvm.ClassFile.FieldType)) ∈ lw_all := lw_g (lw_at lw_m8 66 rfl) rfl
theorem q1842 : (Jvm.Cond.methodLink "TouchShelfModel" (137 : Nat) ({ cls := "TouchShelfModel", name := "see", desc := "()I" } : Jvm.MethodName)) ∈ lw_all := lw_g (lw_at lw_m8 67 rfl) rfl
theorem q1843 : (Jvm.Cond.privateMethod ({ cls := "TouchShelfModel", name := "see", desc := "()I" } : Jvm.MethodName)) ∈ lw_tbl := lw_at lw_m8 68 rfl
theorem q1844 : (Jvm.Cond.instanceMethod ({ cls := "TouchShelfModel", name := "see", desc := "()I" } : Jvm.MethodName)) ∈ lw_all := lw_g (lw_at lw_m8 69 rfl) rfl
theorem q1845 : (Jvm.Cond.code ({ cls := "TouchShelfModel", name := "see", desc := "()I" } : Jvm.MethodName) prog_19_method_13_code (1 : Nat) (Option.some Jvm.ClassFile.FieldType.int)) ∈ lw_all := lw_g (lw_at lw_m8 70 rfl) rfl
theorem q1846 : (Jvm.Cond.methodLink "TouchShelfModel" (220 : Nat) ({ cls := "TouchShelfModel", name := "lines", desc := "(I)Z" } : Jvm.MethodName)) ∈ lw_all := lw_g (lw_at lw_m8 71 rfl) rfl
theorem q1847 : (Jvm.Cond.privateMethod ({ cls := "TouchShelfModel", name := "lines", desc := "(I)Z" } : Jvm.MethodName)) ∈ lw_tbl := lw_at lw_m8 72 rfl
theorem q1848 : (Jvm.Cond.instanceMethod ({ cls := "TouchShelfModel", name := "lines", desc := "(I)Z" } : Jvm.MethodName)) ∈ lw_all := lw_g (lw_at lw_m8 73 rfl) rfl
theorem q1849 : (Jvm.Cond.code ({ cls := "TouchShelfModel", name := "lines", desc := "(I)Z" } : Jvm.MethodName) prog_19_method_22_code (6 : Nat) (Option.some Jvm.ClassFile.FieldType.boolean)) ∈ lw_all := lw_g (lw_at lw_m8 74 rfl) rfl
theorem q1850 : (Jvm.Cond.methodLink "TouchShelfModel" (211 : Nat) ({ cls := "TouchShelfModel", name := "libraryLine", desc := "(JI)Z" } : Jvm.MethodName)) ∈ lw_all := lw_g (lw_at lw_m8 75 rfl) rfl
theorem q1851 : (Jvm.Cond.privateMethod ({ cls := "TouchShelfModel", name := "libraryLine", desc := "(JI)Z" } : Jvm.MethodName)) ∈ lw_tbl := lw_at lw_m8 76 rfl
theorem q1852 : (Jvm.Cond.instanceMethod ({ cls := "TouchShelfModel", name := "libraryLine", desc := "(JI)Z" } : Jvm.MethodName)) ∈ lw_all := lw_g (lw_at lw_m8 77 rfl) rfl
theorem q1853 : (Jvm.Cond.code ({ cls := "TouchShelfModel", name := "libraryLine", desc := "(JI)Z" } : Jvm.MethodName) prog_19_method_19_code (5 : Nat) (Option.some Jvm.ClassFile.FieldType.boolean)) ∈ lw_all := lw_g (lw_at lw_m8 78 rfl) rfl
theorem q1854 : (Jvm.Cond.constantLong "TouchShelfModel" (185 : Nat) (1651078259 : Int64)) ∈ lw_all := lw_g (lw_at lw_m8 79 rfl) rfl
theorem q1855 : (Jvm.Cond.constantLong "TouchShelfModel" (187 : Nat) (2003132786 : Int64)) ∈ lw_all := lw_g (lw_at lw_m8 80 rfl) rfl
theorem q1856 : (Jvm.Cond.constantLong "TouchShelfModel" (189 : Nat) (1918989413 : Int64)) ∈ lw_all := lw_g (lw_at lw_m8 81 rfl) rfl
theorem q1857 : (Jvm.Cond.constantLong "TouchShelfModel" (191 : Nat) (495672716390 : Int64)) ∈ lw_all := lw_g (lw_at lw_m8 82 rfl) rfl
theorem q1858 : (Jvm.Cond.constantLong "TouchShelfModel" (193 : Nat) (131277443786868 : Int64)) ∈ lw_all := lw_g (lw_at lw_m8 83 rfl) rfl
theorem q1859 : (Jvm.Cond.methodLink "TouchShelfModel" (163 : Nat) ({ cls := "TouchShelfModel", name := "stops", desc := "()Z" } : Jvm.MethodName)) ∈ lw_all := lw_g (lw_at lw_m8 84 rfl) rfl
theorem q1860 : (Jvm.Cond.privateMethod ({ cls := "TouchShelfModel", name := "stops", desc := "()Z" } : Jvm.MethodName)) ∈ lw_tbl := lw_at lw_m8 85 rfl
theorem q1861 : (Jvm.Cond.instanceMethod ({ cls := "TouchShelfModel", name := "stops", desc := "()Z" } : Jvm.MethodName)) ∈ lw_all := lw_g (lw_at lw_m8 86 rfl) rfl
theorem q1862 : (Jvm.Cond.code ({ cls := "TouchShelfModel", name := "stops", desc := "()Z" } : Jvm.MethodName) prog_19_method_15_code (1 : Nat) (Option.some Jvm.ClassFile.FieldType.boolean)) ∈ lw_all := lw_g (lw_at lw_m8 87 rfl) rfl
theorem q1863 : (Jvm.Cond.methodLink "TouchShelfModel" (195 : Nat) ({ cls := "TouchShelfModel", name := "shelfLine", desc := "(I)Z" } : Jvm.MethodName)) ∈ lw_all := lw_g (lw_at lw_m8 88 rfl) rfl
theorem q1864 : (Jvm.Cond.privateMethod ({ cls := "TouchShelfModel", name := "shelfLine", desc := "(I)Z" } : Jvm.MethodName)) ∈ lw_tbl := lw_at lw_m8 89 rfl
theorem q1865 : (Jvm.Cond.instanceMethod ({ cls := "TouchShelfModel", name := "shelfLine", desc := "(I)Z" } : Jvm.MethodName)) ∈ lw_all := lw_g (lw_at lw_m8 90 rfl) rfl
theorem q1866 : (Jvm.Cond.code ({ cls := "TouchShelfModel", name := "shelfLine", desc := "(I)Z" } : Jvm.MethodName) prog_19_method_18_code (4 : Nat) (Option.some Jvm.ClassFile.FieldType.boolean)) ∈ lw_all := lw_g (lw_at lw_m8 91 rfl) rfl
theorem q1867 : (Jvm.Cond.methodLink "TouchShelfModel" (167 : Nat) ({ cls := "TouchShelfModel", name := "later", desc := "(II)V" } : Jvm.MethodName)) ∈ lw_all := lw_g (lw_at lw_m8 92 rfl) rfl
theorem q1868 : (Jvm.Cond.privateMethod ({ cls := "TouchShelfModel", name := "later", desc := "(II)V" } : Jvm.MethodName)) ∈ lw_tbl := lw_at lw_m8 93 rfl
theorem q1869 : (Jvm.Cond.instanceMethod ({ cls := "TouchShelfModel", name := "later", desc := "(II)V" } : Jvm.MethodName)) ∈ lw_all := lw_g (lw_at lw_m8 94 rfl) rfl
theorem q1870 : (Jvm.Cond.code ({ cls := "TouchShelfModel", name := "later", desc := "(II)V" } : Jvm.MethodName) prog_19_method_16_code (3 : Nat) (Option.none : Option Jvm.ClassFile.FieldType)) ∈ lw_all := lw_g (lw_at lw_m8 95 rfl) rfl
theorem q1871 : (Jvm.Cond.methodLink "TouchShelfModel" (174 : Nat) ({ cls := "TouchShelfModel", name := "takeNumber", desc := "(IIII)Z" } : Jvm.MethodName)) ∈ lw_all := lw_g (lw_at lw_m8 96 rfl) rfl
theorem q1872 : (Jvm.Cond.privateMethod ({ cls := "TouchShelfModel", name := "takeNumber", desc := "(IIII)Z" } : Jvm.MethodName)) ∈ lw_tbl := lw_at lw_m8 97 rfl
theorem q1873 : (Jvm.Cond.instanceMethod ({ cls := "TouchShelfModel", name := "takeNumber", desc := "(IIII)Z" } : Jvm.MethodName)) ∈ lw_all := lw_g (lw_at lw_m8 98 rfl) rfl
theorem q1874 : (Jvm.Cond.code ({ cls := "TouchShelfModel", name := "takeNumber", desc := "(IIII)Z" } : Jvm.MethodName) prog_19_method_17_code (5 : Nat) (Option.some Jvm.ClassFile.FieldType.boolean)) ∈ lw_all := lw_g (lw_at lw_m8 99 rfl) rfl
theorem q1875 : (Jvm.Cond.methodLink "TouchShelfModel" (181 : Nat) ({ cls := "TouchShelfModel", name := "greater", desc := "(II)I" } : Jvm.MethodName)) ∈ lw_all := lw_g (lw_at lw_m8 100 rfl) rfl
theorem q1876 : (Jvm.Cond.static ({ cls := "TouchShelfModel", name := "greater", desc := "(II)I" } : Jvm.MethodName)) ∈ lw_all := lw_g (lw_at lw_m8 101 rfl) rfl
theorem q1877 : (Jvm.Cond.code ({ cls := "TouchShelfModel", name := "greater", desc := "(II)I" } : Jvm.MethodName) prog_19_method_6_code (2 : Nat) (Option.some Jvm.ClassFile.FieldType.int)) ∈ lw_all := lw_g (lw_at lw_m8 102 rfl) rfl
theorem q1878 : (Jvm.Cond.methodLink "TouchShelfModel" (214 : Nat) ({ cls := "TouchShelfModel", name := "bookLine", desc := "(JI)Z" } : Jvm.MethodName)) ∈ lw_all := lw_g (lw_at lw_m8 103 rfl) rfl
theorem q1879 : (Jvm.Cond.privateMethod ({ cls := "TouchShelfModel", name := "bookLine", desc := "(JI)Z" } : Jvm.MethodName)) ∈ lw_tbl := lw_at lw_m8 104 rfl
theorem q1880 : (Jvm.Cond.instanceMethod ({ cls := "TouchShelfModel", name := "bookLine", desc := "(JI)Z" } : Jvm.MethodName)) ∈ lw_all := lw_g (lw_at lw_m8 105 rfl) rfl
theorem q1881 : (Jvm.Cond.code ({ cls := "TouchShelfModel", name := "bookLine", desc := "(JI)Z" } : Jvm.MethodName) prog_19_method_20_code (6 : Nat) (Option.some Jvm.ClassFile.FieldType.boolean)) ∈ lw_all := lw_g (lw_at lw_m8 106 rfl) rfl
theorem q1882 : (Jvm.Cond.constantLong "TouchShelfModel" (199 : Nat) (7370100 : Int64)) ∈ lw_all := lw_g (lw_at lw_m8 107 rfl) rfl
theorem q1883 : (Jvm.Cond.constantLong "TouchShelfModel" (201 : Nat) (1952541541 : Int64)) ∈ lw_all := lw_g (lw_at lw_m8 108 rfl) rfl
theorem q1884 : (Jvm.Cond.constantLong "TouchShelfModel" (203 : Nat) (495740085349 : Int64)) ∈ lw_all := lw_g (lw_at lw_m8 109 rfl) rfl
theorem q1885 : (Jvm.Cond.constantLong "TouchShelfModel" (205 : Nat) (1717921132 : Int64)) ∈ lw_all := lw_g (lw_at lw_m8 110 rfl) rfl
theorem q1886 : (Jvm.Cond.methodLink "TouchShelfModel" (217 : Nat) ({ cls := "TouchShelfModel", name := "roundLine", desc := "(JI)Z" } : Jvm.MethodName)) ∈ lw_all := lw_g (lw_at lw_m8 111 rfl) rfl
theorem q1887 : (Jvm.Cond.privateMethod ({ cls := "TouchShelfModel", name := "roundLine", desc := "(JI)Z" } : Jvm.MethodName)) ∈ lw_tbl := lw_at lw_m8 112 rfl
theorem q1888 : (Jvm.Cond.instanceMethod ({ cls := "TouchShelfModel", name := "roundLine", desc := "(JI)Z" } : Jvm.MethodName)) ∈ lw_all := lw_g (lw_at lw_m8 113 rfl) rfl
theorem q1889 : (Jvm.Cond.code ({ cls := "TouchShelfModel", name := "roundLine", desc := "(JI)Z" } : Jvm.MethodName) prog_19_method_21_code (6 : Nat) (Option.some Jvm.ClassFile.FieldType.boolean)) ∈ lw_all := lw_g (lw_at lw_m8 114 rfl) rfl
theorem q1890 : (Jvm.Cond.constantLong "TouchShelfModel" (207 : Nat) (125779751232882 : Int64)) ∈ lw_all := lw_g (lw_at lw_m8 115 rfl) rfl
theorem q1891 : (Jvm.Cond.constantLong "TouchShelfModel" (209 : Nat) (6386539 : Int64)) ∈ lw_all := lw_g (lw_at lw_m8 116 rfl) rfl
theorem q1892 : (Jvm.Cond.methodLink "TouchShelfModel" (230 : Nat) ({ cls := "TouchShelfModel", name := "store", desc := "([III)V" } : Jvm.MethodName)) ∈ lw_all := lw_g (lw_at lw_m8 117 rfl) rfl
theorem q1893 : (Jvm.Cond.privateMethod ({ cls := "TouchShelfModel", name := "store", desc := "([III)V" } : Jvm.MethodName)) ∈ lw_tbl := lw_at lw_m8 118 rfl
theorem q1894 : (Jvm.Cond.instanceMethod ({ cls := "TouchShelfModel", name := "store", desc := "([III)V" } : Jvm.MethodName)) ∈ lw_all := lw_g (lw_at lw_m8 119 rfl) rfl
theorem q1895 : (Jvm.Cond.code ({ cls := "TouchShelfModel", name := "store", desc := "([III)V" } : Jvm.MethodName) prog_19_method_24_code (5 : Nat) (Option.none : Option Jvm.ClassFile.FieldType)) ∈ lw_all := lw_g (lw_at lw_m8 120 rfl) rfl
theorem q1897 : (Jvm.Cond.instanceMethod ({ cls := "TouchShelfModel", name := "fault", desc := "(I)I" } : Jvm.MethodName)) ∈ lw_all := lw_g (lw_at lw_m8 122 rfl) rfl
theorem q1898 : (Jvm.Cond.selects "TouchShelfModel" ({ cls := "TouchShelfModel", name := "fault", desc := "(I)I" } : Jvm.MethodName) ({ cls := "TouchShelfModel", name := "fault", desc := "(I)I" } : Jvm.MethodName)) ∈ lw_all := lw_g (lw_at lw_m8 123 rfl) rfl
theorem q1899 : (Jvm.Cond.code ({ cls := "TouchShelfModel", name := "fault", desc := "(I)I" } : Jvm.MethodName) prog_19_method_26_code (2 : Nat) (Option.some Jvm.ClassFile.FieldType.int)) ∈ lw_all := lw_g (lw_at lw_m8 124 rfl) rfl
theorem q1901 : (Jvm.Cond.instanceMethod ({ cls := "TouchShelfModel", name := "library", desc := "(II)I" } : Jvm.MethodName)) ∈ lw_all := lw_g (lw_at lw_m8 126 rfl) rfl
theorem q1902 : (Jvm.Cond.selects "TouchShelfModel" ({ cls := "TouchShelfModel", name := "library", desc := "(II)I" } : Jvm.MethodName) ({ cls := "TouchShelfModel", name := "library", desc := "(II)I" } : Jvm.MethodName)) ∈ lw_all := lw_g (lw_at lw_m8 127 rfl) rfl
theorem q1903 : (Jvm.Cond.code ({ cls := "TouchShelfModel", name := "library", desc := "(II)I" } : Jvm.MethodName) prog_19_method_40_code (4 : Nat) (Option.some Jvm.ClassFile.FieldType.int)) ∈ lw_all := lw_g (lw_at lw_m8 128 rfl) rfl
theorem q1904 : (Jvm.Cond.methodLink "TouchShelfModel" (270 : Nat) ({ cls := "TouchShelfModel", name := "hand", desc := "(I)Z" } : Jvm.MethodName)) ∈ lw_all := lw_g (lw_at lw_m8 129 rfl) rfl
theorem q1905 : (Jvm.Cond.privateMethod ({ cls := "TouchShelfModel", name := "hand", desc := "(I)Z" } : Jvm.MethodName)) ∈ lw_tbl := lw_at lw_m8 130 rfl
theorem q1906 : (Jvm.Cond.instanceMethod ({ cls := "TouchShelfModel", name := "hand", desc := "(I)Z" } : Jvm.MethodName)) ∈ lw_all := lw_g (lw_at lw_m8 131 rfl) rfl
theorem q1907 : (Jvm.Cond.code ({ cls := "TouchShelfModel", name := "hand", desc := "(I)Z" } : Jvm.MethodName) prog_19_method_27_code (5 : Nat) (Option.some Jvm.ClassFile.FieldType.boolean)) ∈ lw_all := lw_g (lw_at lw_m8 132 rfl) rfl
theorem q1908 : (Jvm.Cond.methodLink "TouchShelfModel" (273 : Nat) ({ cls := "TouchShelfModel", name := "close", desc := "()I" } : Jvm.MethodName)) ∈ lw_all := lw_g (lw_at lw_m8 133 rfl) rfl
theorem q1909 : (Jvm.Cond.privateMethod ({ cls := "TouchShelfModel", name := "close", desc := "()I" } : Jvm.MethodName)) ∈ lw_tbl := lw_at lw_m8 134 rfl
theorem q1910 : (Jvm.Cond.instanceMethod ({ cls := "TouchShelfModel", name := "close", desc := "()I" } : Jvm.MethodName)) ∈ lw_all := lw_g (lw_at lw_m8 135 rfl) rfl
theorem q1911 : (Jvm.Cond.code ({ cls := "TouchShelfModel", name := "close", desc := "()I" } : Jvm.MethodName) prog_19_method_37_code (7 : Nat) (Option.some Jvm.ClassFile.FieldType.int)) ∈ lw_all := lw_g (lw_at lw_m8 136 rfl) rfl
theorem q1912 : (Jvm.Cond.methodLink "TouchShelfModel" (260 : Nat) ({ cls := "TouchShelfModel", name := "here", desc := "()J" } : Jvm.MethodName)) ∈ lw_all := lw_g (lw_at lw_m8 137 rfl) rfl
theorem q1913 : (Jvm.Cond.privateMethod ({ cls := "TouchShelfModel", name := "here", desc := "()J" } : Jvm.MethodName)) ∈ lw_tbl := lw_at lw_m8 138 rfl
theorem q1914 : (Jvm.Cond.instanceMethod ({ cls := "TouchShelfModel", name := "here", desc := "()J" } : Jvm.MethodName)) ∈ lw_all := lw_g (lw_at lw_m8 139 rfl) rfl
theorem q1915 : (Jvm.Cond.code ({ cls := "TouchShelfModel", name := "here", desc := "()J" } : Jvm.MethodName) prog_19_method_33_code (4 : Nat) (Option.some Jvm.ClassFile.FieldType.long)) ∈ lw_all := lw_g (lw_at lw_m8 140 rfl) rfl
theorem q1916 : (Jvm.Cond.methodLink "TouchShelfModel" (115 : Nat) ({ cls := "TouchShelfModel", name := "has", desc := "(JI)Z" } : Jvm.MethodName)) ∈ lw_all := lw_g (lw_at lw_m8 141 rfl) rfl
theorem q1917 : (Jvm.Cond.static ({ cls := "TouchShelfModel", name := "has", desc := "(JI)Z" } : Jvm.MethodName)) ∈ lw_all := lw_g (lw_at lw_m8 142 rfl) rfl
theorem q1918 : (Jvm.Cond.code ({ cls := "TouchShelfModel", name := "has", desc := "(JI)Z" } : Jvm.MethodName) prog_19_method_4_code (3 : Nat) (Option.some Jvm.ClassFile.FieldType.boolean)) ∈ lw_all := lw_g (lw_at lw_m8 143 rfl) rfl
theorem q1919 : (Jvm.Cond.methodLink "TouchShelfModel" (264 : Nat) ({ cls := "TouchShelfModel", name := "offOf", desc := "(II)I" } : Jvm.MethodName)) ∈ lw_all := lw_g (lw_at lw_m8 144 rfl) rfl
theorem q1920 : (Jvm.Cond.static ({ cls := "TouchShelfModel", name := "offOf", desc := "(II)I" } : Jvm.MethodName)) ∈ lw_all := lw_g (lw_at lw_m8 145 rfl) rfl
theorem q1921 : (Jvm.Cond.code ({ cls := "TouchShelfModel", name := "offOf", desc := "(II)I" } : Jvm.MethodName) prog_19_method_34_code (2 : Nat) (Option.some Jvm.ClassFile.FieldType.int)) ∈ lw_all := lw_g (lw_at lw_m8 146 rfl) rfl
theorem q1922 : (Jvm.Cond.methodLink "TouchShelfModel" (253 : Nat) ({ cls := "TouchShelfModel", name := "ones", desc := "(J)I" } : Jvm.MethodName)) ∈ lw_all := lw_g (lw_at lw_m8 147 rfl) rfl
theorem q1923 : (Jvm.Cond.static ({ cls := "TouchShelfModel", name := "ones", desc := "(J)I" } : Jvm.MethodName)) ∈ lw_all := lw_g (lw_at lw_m8 148 rfl) rfl
theorem q1924 : (Jvm.Cond.code ({ cls := "TouchShelfModel", name := "ones", desc := "(J)I" } : Jvm.MethodName) prog_19_method_5_code (4 : Nat) (Option.some Jvm.ClassFile.FieldType.int)) ∈ lw_all := lw_g (lw_at lw_m8 149 rfl) rfl
theorem q1925 : (Jvm.Cond.methodLink "TouchShelfModel" (267 : Nat) ({ cls := "TouchShelfModel", name := "tablets", desc := "()I" } : Jvm.MethodName)) ∈ lw_all := lw_g (lw_at lw_m8 150 rfl) rfl
theorem q1926 : (Jvm.Cond.privateMethod ({ cls := "TouchShelfModel", name := "tablets", desc := "()I" } : Jvm.MethodName)) ∈ lw_tbl := lw_at lw_m8 151 rfl
theorem q1927 : (Jvm.Cond.instanceMethod ({ cls := "TouchShelfModel", name := "tablets", desc := "()I" } : Jvm.MethodName)) ∈ lw_all := lw_g (lw_at lw_m8 152 rfl) rfl
theorem q1928 : (Jvm.Cond.code ({ cls := "TouchShelfModel", name := "tablets", desc := "()I" } : Jvm.MethodName) prog_19_method_32_code (3 : Nat) (Option.some Jvm.ClassFile.FieldType.int)) ∈ lw_all := lw_g (lw_at lw_m8 153 rfl) rfl
theorem q1929 : (Jvm.Cond.methodLink "TouchShelfModel" (249 : Nat) ({ cls := "TouchShelfModel", name := "tabletsOn", desc := "(I)I" } : Jvm.MethodName)) ∈ lw_all := lw_g (lw_at lw_m8 154 rfl) rfl
theorem q1930 : (Jvm.Cond.privateMethod ({ cls := "TouchShelfModel", name := "tabletsOn", desc := "(I)I" } : Jvm.MethodName)) ∈ lw_tbl := lw_at lw_m8 155 rfl
theorem q1931 : (Jvm.Cond.instanceMethod ({ cls := "TouchShelfModel", name := "tabletsOn", desc := "(I)I" } : Jvm.MethodName)) ∈ lw_all := lw_g (lw_at lw_m8 156 rfl) rfl
theorem q1932 : (Jvm.Cond.code ({ cls := "TouchShelfModel", name := "tabletsOn", desc := "(I)I" } : Jvm.MethodName) prog_19_method_31_code (4 : Nat) (Option.some Jvm.ClassFile.FieldType.int)) ∈ lw_all := lw_g (lw_at lw_m8 157 rfl) rfl
theorem q1933 : (Jvm.Cond.methodLink "TouchShelfModel" (276 : Nat) ({ cls := "TouchShelfModel", name := "even", desc := "()I" } : Jvm.MethodName)) ∈ lw_all := lw_g (lw_at lw_m8 158 rfl) rfl
theorem q1934 : (Jvm.Cond.privateMethod ({ cls := "TouchShelfModel", name := "even", desc := "()I" } : Jvm.MethodName)) ∈ lw_tbl := lw_at lw_m8 159 rfl
theorem q1935 : (Jvm.Cond.instanceMethod ({ cls := "TouchShelfModel", name := "even", desc := "()I" } : Jvm.MethodName)) ∈ lw_all := lw_g (lw_at lw_m8 160 rfl) rfl
theorem q1936 : (Jvm.Cond.code ({ cls := "TouchShelfModel", name := "even", desc := "()I" } : Jvm.MethodName) prog_19_method_39_code (8 : Nat) (Option.some Jvm.ClassFile.FieldType.int)) ∈ lw_all := lw_g (lw_at lw_m8 161 rfl) rfl
theorem q1938 : (Jvm.Cond.instanceMethod ({ cls := "TouchShelfModel", name := "shelf", desc := "(III)I" } : Jvm.MethodName)) ∈ lw_all := lw_g (lw_at lw_m8 163 rfl) rfl
theorem q1939 : (Jvm.Cond.selects "TouchShelfModel" ({ cls := "TouchShelfModel", name := "shelf", desc := "(III)I" } : Jvm.MethodName) ({ cls := "TouchShelfModel", name := "shelf", desc := "(III)I" } : Jvm.MethodName)) ∈ lw_all := lw_g (lw_at lw_m8 164 rfl) rfl
theorem q1940 : (Jvm.Cond.code ({ cls := "TouchShelfModel", name := "shelf", desc := "(III)I" } : Jvm.MethodName) prog_19_method_56_code (4 : Nat) (Option.some Jvm.ClassFile.FieldType.int)) ∈ lw_all := lw_g (lw_at lw_m8 165 rfl) rfl
theorem q1941 : (Jvm.Cond.methodLink "TouchShelfModel" (246 : Nat) ({ cls := "TouchShelfModel", name := "isShelf", desc := "(I)Z" } : Jvm.MethodName)) ∈ lw_all := lw_g (lw_at lw_m8 166 rfl) rfl
theorem q1942 : (Jvm.Cond.privateMethod ({ cls := "TouchShelfModel", name := "isShelf", desc := "(I)Z" } : Jvm.MethodName)) ∈ lw_tbl := lw_at lw_m8 167 rfl
theorem q1943 : (Jvm.Cond.instanceMethod ({ cls := "TouchShelfModel", name := "isShelf", desc := "(I)Z" } : Jvm.MethodName)) ∈ lw_all := lw_g (lw_at lw_m8 168 rfl) rfl
theorem q1944 : (Jvm.Cond.code ({ cls := "TouchShelfModel", name := "isShelf", desc := "(I)Z" } : Jvm.MethodName) prog_19_method_28_code (2 : Nat) (Option.some Jvm.ClassFile.FieldType.boolean)) ∈ lw_all := lw_g (lw_at lw_m8 169 rfl) rfl
theorem q1945 : (Jvm.Cond.methodLink "TouchShelfModel" (333 : Nat) ({ cls := "TouchShelfModel", name := "layRow", desc := "(I)V" } : Jvm.MethodName)) ∈ lw_all := lw_g (lw_at lw_m8 170 rfl) rfl
theorem q1946 : (Jvm.Cond.privateMethod ({ cls := "TouchShelfModel", name := "layRow", desc := "(I)V" } : Jvm.MethodName)) ∈ lw_tbl := lw_at lw_m8 171 rfl
theorem q1947 : (Jvm.Cond.instanceMethod ({ cls := "TouchShelfModel", name := "layRow", desc := "(I)V" } : Jvm.MethodName)) ∈ lw_all := lw_g (lw_at lw_m8 172 rfl) rfl
theorem q1948 : (Jvm.Cond.code ({ cls := "TouchShelfModel", name := "layRow", desc := "(I)V" } : Jvm.MethodName) prog_19_method_53_code (3 : Nat) (Option.none : Option Jvm.ClassFile.FieldType)) ∈ lw_all := lw_g (lw_at lw_m8 173 rfl) rfl
theorem q1949 : (Jvm.Cond.methodLink "TouchShelfModel" (336 : Nat) ({ cls := "TouchShelfModel", name := "turned", desc := "()I" } : Jvm.MethodName)) ∈ lw_all := lw_g (lw_at lw_m8 174 rfl) rfl
theorem q1950 : (Jvm.Cond.privateMethod ({ cls := "TouchShelfModel", name := "turned", desc := "()I" } : Jvm.MethodName)) ∈ lw_tbl := lw_at lw_m8 175 rfl
theorem q1951 : (Jvm.Cond.instanceMethod ({ cls := "TouchShelfModel", name := "turned", desc := "()I" } : Jvm.MethodName)) ∈ lw_all := lw_g (lw_at lw_m8 176 rfl) rfl
theorem q1952 : (Jvm.Cond.code ({ cls := "TouchShelfModel", name := "turned", desc := "()I" } : Jvm.MethodName) prog_19_method_54_code (4 : Nat) (Option.some Jvm.ClassFile.FieldType.int)) ∈ lw_all := lw_g (lw_at lw_m8 177 rfl) rfl
theorem q1953 : (Jvm.Cond.methodLink "TouchShelfModel" (339 : Nat) ({ cls := "TouchShelfModel", name := "longest", desc := "()I" } : Jvm.MethodName)) ∈ lw_all := lw_g (lw_at lw_m8 178 rfl) rfl
theorem q1954 : (Jvm.Cond.privateMethod ({ cls := "TouchShelfModel", name := "longest", desc := "()I" } : Jvm.MethodName)) ∈ lw_tbl := lw_at lw_m8 179 rfl
theorem q1955 : (Jvm.Cond.instanceMethod ({ cls := "TouchShelfModel", name := "longest", desc := "()I" } : Jvm.MethodName)) ∈ lw_all := lw_g (lw_at lw_m8 180 rfl) rfl
theorem q1956 : (Jvm.Cond.code ({ cls := "TouchShelfModel", name := "longest", desc := "()I" } : Jvm.MethodName) prog_19_method_55_code (4 : Nat) (Option.some Jvm.ClassFile.FieldType.int)) ∈ lw_all := lw_g (lw_at lw_m8 181 rfl) rfl
theorem q1957 : (Jvm.Cond.methodLink "TouchShelfModel" (342 : Nat) ({ cls := "TouchShelfModel", name := "slidesOf", desc := "(II)I" } : Jvm.MethodName)) ∈ lw_all := lw_g (lw_at lw_m8 182 rfl) rfl
theorem q1958 : (Jvm.Cond.privateMethod ({ cls := "TouchShelfModel", name := "slidesOf", desc := "(II)I" } : Jvm.MethodName)) ∈ lw_tbl := lw_at lw_m8 183 rfl
theorem q1959 : (Jvm.Cond.instanceMethod ({ cls := "TouchShelfModel", name := "slidesOf", desc := "(II)I" } : Jvm.MethodName)) ∈ lw_all := lw_g (lw_at lw_m8 184 rfl) rfl
theorem q1960 : (Jvm.Cond.code ({ cls := "TouchShelfModel", name := "slidesOf", desc := "(II)I" } : Jvm.MethodName) prog_19_method_52_code (4 : Nat) (Option.some Jvm.ClassFile.FieldType.int)) ∈ lw_all := lw_g (lw_at lw_m8 185 rfl) rfl
theorem q1961 : (Jvm.Cond.methodLink "TouchShelfModel" (321 : Nat) ({ cls := "TouchShelfModel", name := "layCells", desc := "(I)V" } : Jvm.MethodName)) ∈ lw_all := lw_g (lw_at lw_m8 186 rfl) rfl
theorem q1962 : (Jvm.Cond.privateMethod ({ cls := "TouchShelfModel", name := "layCells", desc := "(I)V" } : Jvm.MethodName)) ∈ lw_tbl := lw_at lw_m8 187 rfl
theorem q1963 : (Jvm.Cond.instanceMethod ({ cls := "TouchShelfModel", name := "layCells", desc := "(I)V" } : Jvm.MethodName)) ∈ lw_all := lw_g (lw_at lw_m8 188 rfl) rfl
theorem q1964 : (Jvm.Cond.code ({ cls := "TouchShelfModel", name := "layCells", desc := "(I)V" } : Jvm.MethodName) prog_19_method_46_code (3 : Nat) (Option.none : Option Jvm.ClassFile.FieldType)) ∈ lw_all := lw_g (lw_at lw_m8 189 rfl) rfl
theorem q1965 : (Jvm.Cond.methodLink "TouchShelfModel" (324 : Nat) ({ cls := "TouchShelfModel", name := "findSlides", desc := "()V" } : Jvm.MethodName)) ∈ lw_all := lw_g (lw_at lw_m8 190 rfl) rfl
theorem q1966 : (Jvm.Cond.privateMethod ({ cls := "TouchShelfModel", name := "findSlides", desc := "()V" } : Jvm.MethodName)) ∈ lw_tbl := lw_at lw_m8 191 rfl
theorem q1967 : (Jvm.Cond.instanceMethod ({ cls := "TouchShelfModel", name := "findSlides", desc := "()V" } : Jvm.MethodName)) ∈ lw_all := lw_g (lw_at lw_m8 192 rfl) rfl
theorem q1968 : (Jvm.Cond.code ({ cls := "TouchShelfModel", name := "findSlides", desc := "()V" } : Jvm.MethodName) prog_19_method_47_code (7 : Nat) (Option.none : Option Jvm.ClassFile.FieldType)) ∈ lw_all := lw_g (lw_at lw_m8 193 rfl) rfl
theorem q1969 : (Jvm.Cond.methodLink "TouchShelfModel" (295 : Nat) ({ cls := "TouchShelfModel", name := "packed", desc := "()J" } : Jvm.MethodName)) ∈ lw_all := lw_g (lw_at lw_m8 194 rfl) rfl
theorem q1970 : (Jvm.Cond.privateMethod ({ cls := "TouchShelfModel", name := "packed", desc := "()J" } : Jvm.MethodName)) ∈ lw_tbl := lw_at lw_m8 195 rfl
theorem q1971 : (Jvm.Cond.instanceMethod ({ cls := "TouchShelfModel", name := "packed", desc := "()J" } : Jvm.MethodName)) ∈ lw_all := lw_g (lw_at lw_m8 196 rfl) rfl
theorem q1972 : (Jvm.Cond.code ({ cls := "TouchShelfModel", name := "packed", desc := "()J" } : Jvm.MethodName) prog_19_method_44_code (4 : Nat) (Option.some Jvm.ClassFile.FieldType.long)) ∈ lw_all := lw_g (lw_at lw_m8 197 rfl) rfl
theorem q1973 : (Jvm.Cond.methodLink "TouchShelfModel" (298 : Nat) ({ cls := "TouchShelfModel", name := "comesTo", desc := "(JI)V" } : Jvm.MethodName)) ∈ lw_all := lw_g (lw_at lw_m8 198 rfl) rfl
theorem q1974 : (Jvm.Cond.privateMethod ({ cls := "TouchShelfModel", name := "comesTo", desc := "(JI)V" } : Jvm.MethodName)) ∈ lw_tbl := lw_at lw_m8 199 rfl
theorem q1975 : (Jvm.Cond.instanceMethod ({ cls := "TouchShelfModel", name := "comesTo", desc := "(JI)V" } : Jvm.MethodName)) ∈ lw_all := lw_g (lw_at lw_m8 200 rfl) rfl
theorem q1976 : (Jvm.Cond.code ({ cls := "TouchShelfModel", name := "comesTo", desc := "(JI)V" } : Jvm.MethodName) prog_19_method_43_code (5 : Nat) (Option.none : Option Jvm.ClassFile.FieldType)) ∈ lw_all := lw_g (lw_at lw_m8 201 rfl) rfl
theorem q1977 : (Jvm.Cond.methodLink "TouchShelfModel" (284 : Nat) ({ cls := "TouchShelfModel", name := "find", desc := "(J)I" } : Jvm.MethodName)) ∈ lw_all := lw_g (lw_at lw_m8 202 rfl) rfl
theorem q1978 : (Jvm.Cond.privateMethod ({ cls := "TouchShelfModel", name := "find", desc := "(J)I" } : Jvm.MethodName)) ∈ lw_tbl := lw_at lw_m8 203 rfl
theorem q1979 : (Jvm.Cond.instanceMethod ({ cls := "TouchShelfModel", name := "find", desc := "(J)I" } : Jvm.MethodName)) ∈ lw_all := lw_g (lw_at lw_m8 204 rfl) rfl
theorem q1980 : (Jvm.Cond.code ({ cls := "TouchShelfModel", name := "find", desc := "(J)I" } : Jvm.MethodName) prog_19_method_42_code (4 : Nat) (Option.some Jvm.ClassFile.FieldType.int)) ∈ lw_all := lw_g (lw_at lw_m8 205 rfl) rfl
theorem q1981 : (Jvm.Cond.methodLink "TouchShelfModel" (281 : Nat) ({ cls := "TouchShelfModel", name := "slot", desc := "(J)I" } : Jvm.MethodName)) ∈ lw_all := lw_g (lw_at lw_m8 206 rfl) rfl
theorem q1982 : (Jvm.Cond.static ({ cls := "TouchShelfModel", name := "slot", desc := "(J)I" } : Jvm.MethodName)) ∈ lw_all := lw_g (lw_at lw_m8 207 rfl) rfl
theorem q1983 : (Jvm.Cond.code ({ cls := "TouchShelfModel", name := "slot", desc := "(J)I" } : Jvm.MethodName) prog_19_method_41_code (2 : Nat) (Option.some Jvm.ClassFile.FieldType.int)) ∈ lw_all := lw_g (lw_at lw_m8 208 rfl) rfl
theorem q1984 : (Jvm.Cond.constantLong "TouchShelfModel" (279 : Nat) (-7046029254386353131 : Int64)) ∈ lw_all := lw_g (lw_at lw_m8 209 rfl) rfl
theorem q1985 : (Jvm.Cond.methodLink "TouchShelfModel" (302 : Nat) ({ cls := "TouchShelfModel", name := "slideAll", desc := "(JI)V" } : Jvm.MethodName)) ∈ lw_all := lw_g (lw_at lw_m8 210 rfl) rfl
theorem q1986 : (Jvm.Cond.privateMethod ({ cls := "TouchShelfModel", name := "slideAll", desc := "(JI)V" } : Jvm.MethodName)) ∈ lw_tbl := lw_at lw_m8 211 rfl
theorem q1987 : (Jvm.Cond.instanceMethod ({ cls := "TouchShelfModel", name := "slideAll", desc := "(JI)V" } : Jvm.MethodName)) ∈ lw_all := lw_g (lw_at lw_m8 212 rfl) rfl
theorem q1988 : (Jvm.Cond.code ({ cls := "TouchShelfModel", name := "slideAll", desc := "(JI)V" } : Jvm.MethodName) prog_19_method_48_code (6 : Nat) (Option.none : Option Jvm.ClassFile.FieldType)) ∈ lw_all := lw_g (lw_at lw_m8 213 rfl) rfl
theorem q1989 : (Jvm.Cond.methodLink "TouchShelfModel" (305 : Nat) ({ cls := "TouchShelfModel", name := "unpack", desc := "(J)V" } : Jvm.MethodName)) ∈ lw_all := lw_g (lw_at lw_m8 214 rfl) rfl
theorem q1990 : (Jvm.Cond.privateMethod ({ cls := "TouchShelfModel", name := "unpack", desc := "(J)V" } : Jvm.MethodName)) ∈ lw_tbl := lw_at lw_m8 215 rfl
theorem q1991 : (Jvm.Cond.instanceMethod ({ cls := "TouchShelfModel", name := "unpack", desc := "(J)V" } : Jvm.MethodName)) ∈ lw_all := lw_g (lw_at lw_m8 216 rfl) rfl
theorem q1992 : (Jvm.Cond.code ({ cls := "TouchShelfModel", name := "unpack", desc := "(J)V" } : Jvm.MethodName) prog_19_method_45_code (6 : Nat) (Option.none : Option Jvm.ClassFile.FieldType)) ∈ lw_all := lw_g (lw_at lw_m8 217 rfl) rfl
theorem q1993 : (Jvm.Cond.constantLong "TouchShelfModel" (293 : Nat) (63 : Int64)) ∈ lw_all := lw_g (lw_at lw_m8 218 rfl) rfl
theorem q1994 : (Jvm.Cond.methodLink "TouchShelfModel" (309 : Nat) ({ cls := "TouchShelfModel", name := "swap", desc := "(II)V" } : Jvm.MethodName)) ∈ lw_all := lw_g (lw_at lw_m8 219 rfl) rfl
theorem q1995 : (Jvm.Cond.privateMethod ({ cls := "TouchShelfModel", name := "swap", desc := "(II)V" } : Jvm.MethodName)) ∈ lw_tbl := lw_at lw_m8 220 rfl
theorem q1996 : (Jvm.Cond.instanceMethod ({ cls := "TouchShelfModel", name := "swap", desc := "(II)V" } : Jvm.MethodName)) ∈ lw_all := lw_g (lw_at lw_m8 221 rfl) rfl
theorem q1997 : (Jvm.Cond.code ({ cls := "TouchShelfModel", name := "swap", desc := "(II)V" } : Jvm.MethodName) prog_19_method_49_code (4 : Nat) (Option.none : Option Jvm.ClassFile.FieldType)) ∈ lw_all := lw_g (lw_at lw_m8 222 rfl) rfl
theorem q1998 : (Jvm.Cond.methodLink "TouchShelfModel" (318 : Nat) ({ cls := "TouchShelfModel", name := "slidesNow", desc := "()I" } : Jvm.MethodName)) ∈ lw_all := lw_g (lw_at lw_m8 223 rfl) rfl
theorem q1999 : (Jvm.Cond.privateMethod ({ cls := "TouchShelfModel", name := "slidesNow", desc := "()I" } : Jvm.MethodName)) ∈ lw_tbl := lw_at lw_m8 224 rfl
theorem q2000 : (Jvm.Cond.instanceMethod ({ cls := "TouchShelfModel", name := "slidesNow", desc := "()I" } : Jvm.MethodName)) ∈ lw_all := lw_g (lw_at lw_m8 225 rfl) rfl
theorem q2001 : (Jvm.Cond.code ({ cls := "TouchShelfModel", name := "slidesNow", desc := "()I" } : Jvm.MethodName) prog_19_method_50_code (2 : Nat) (Option.some Jvm.ClassFile.FieldType.int)) ∈ lw_all := lw_g (lw_at lw_m8 226 rfl) rfl
theorem q2002 : (Jvm.Cond.methodLink "TouchShelfModel" (327 : Nat) ({ cls := "TouchShelfModel", name := "findFirst", desc := "(I)V" } : Jvm.MethodName)) ∈ lw_all := lw_g (lw_at lw_m8 227 rfl) rfl
theorem q2003 : (Jvm.Cond.privateMethod ({ cls := "TouchShelfModel", name := "findFirst", desc := "(I)V" } : Jvm.MethodName)) ∈ lw_tbl := lw_at lw_m8 228 rfl
theorem q2004 : (Jvm.Cond.instanceMethod ({ cls := "TouchShelfModel", name := "findFirst", desc := "(I)V" } : Jvm.MethodName)) ∈ lw_all := lw_g (lw_at lw_m8 229 rfl) rfl
theorem q2005 : (Jvm.Cond.code ({ cls := "TouchShelfModel", name := "findFirst", desc := "(I)V" } : Jvm.MethodName) prog_19_method_51_code (5 : Nat) (Option.none : Option Jvm.ClassFile.FieldType)) ∈ lw_all := lw_g (lw_at lw_m8 230 rfl) rfl
theorem q2007 : (Jvm.Cond.instanceMethod ({ cls := "TouchShelfModel", name := "place", desc := "(III)I" } : Jvm.MethodName)) ∈ lw_all := lw_g (lw_at lw_m8 232 rfl) rfl
theorem q2008 : (Jvm.Cond.selects "TouchShelfModel" ({ cls := "TouchShelfModel", name := "place", desc := "(III)I" } : Jvm.MethodName) ({ cls := "TouchShelfModel", name := "place", desc := "(III)I" } : Jvm.MethodName)) ∈ lw_all := lw_g (lw_at lw_m8 233 rfl) rfl
theorem q2009 : (Jvm.Cond.code ({ cls := "TouchShelfModel", name := "place", desc := "(III)I" } : Jvm.MethodName) prog_19_method_57_code (4 : Nat) (Option.some Jvm.ClassFile.FieldType.int)) ∈ lw_all := lw_g (lw_at lw_m8 234 rfl) rfl
theorem q2010 : (Jvm.Cond.methodLink "TouchShelfModel" (345 : Nat) ({ cls := "TouchShelfModel", name := "isPlace", desc := "(II)Z" } : Jvm.MethodName)) ∈ lw_all := lw_g (lw_at lw_m8 235 rfl) rfl
theorem q2011 : (Jvm.Cond.privateMethod ({ cls := "TouchShelfModel", name := "isPlace", desc := "(II)Z" } : Jvm.MethodName)) ∈ lw_tbl := lw_at lw_m8 236 rfl
theorem q2012 : (Jvm.Cond.instanceMethod ({ cls := "TouchShelfModel", name := "isPlace", desc := "(II)Z" } : Jvm.MethodName)) ∈ lw_all := lw_g (lw_at lw_m8 237 rfl) rfl
theorem q2013 : (Jvm.Cond.code ({ cls := "TouchShelfModel", name := "isPlace", desc := "(II)Z" } : Jvm.MethodName) prog_19_method_29_code (3 : Nat) (Option.some Jvm.ClassFile.FieldType.boolean)) ∈ lw_all := lw_g (lw_at lw_m8 238 rfl) rfl
theorem q2015 : (Jvm.Cond.instanceMethod ({ cls := "TouchShelfModel", name := "off", desc := "(IIIZ)I" } : Jvm.MethodName)) ∈ lw_all := lw_g (lw_at lw_m9 0 rfl) rfl
theorem q2016 : (Jvm.Cond.selects "TouchShelfModel" ({ cls := "TouchShelfModel", name := "off", desc := "(IIIZ)I" } : Jvm.MethodName) ({ cls := "TouchShelfModel", name := "off", desc := "(IIIZ)I" } : Jvm.MethodName)) ∈ lw_all := lw_g (lw_at lw_m9 1 rfl) rfl
theorem q2017 : (Jvm.Cond.code ({ cls := "TouchShelfModel", name := "off", desc := "(IIIZ)I" } : Jvm.MethodName) prog_19_method_58_code (5 : Nat) (Option.some Jvm.ClassFile.FieldType.int)) ∈ lw_all := lw_g (lw_at lw_m9 2 rfl) rfl
theorem q2018 : (Jvm.Cond.methodLink "TouchShelfModel" (348 : Nat) ({ cls := "TouchShelfModel", name := "isMark", desc := "(I)Z" } : Jvm.MethodName)) ∈ lw_all := lw_g (lw_at lw_m9 3 rfl) rfl
theorem q2019 : (Jvm.Cond.privateMethod ({ cls := "TouchShelfModel", name := "isMark", desc := "(I)Z" } : Jvm.MethodName)) ∈ lw_tbl := lw_at lw_m9 4 rfl
theorem q2020 : (Jvm.Cond.instanceMethod ({ cls := "TouchShelfModel", name := "isMark", desc := "(I)Z" } : Jvm.MethodName)) ∈ lw_all := lw_g (lw_at lw_m9 5 rfl) rfl
theorem q2021 : (Jvm.Cond.code ({ cls := "TouchShelfModel", name := "isMark", desc := "(I)Z" } : Jvm.MethodName) prog_19_method_30_code (2 : Nat) (Option.some Jvm.ClassFile.FieldType.boolean)) ∈ lw_all := lw_g (lw_at lw_m9 6 rfl) rfl
theorem q2023 : (Jvm.Cond.instanceMethod ({ cls := "TouchShelfModel", name := "readings", desc := "(III)J" } : Jvm.MethodName)) ∈ lw_all := lw_g (lw_at lw_m9 8 rfl) rfl
theorem q2024 : (Jvm.Cond.selects "TouchShelfModel" ({ cls := "TouchShelfModel", name := "readings", desc := "(III)J" } : Jvm.MethodName) ({ cls := "TouchShelfModel", name := "readings", desc := "(III)J" } : Jvm.MethodName)) ∈ lw_all := lw_g (lw_at lw_m9 9 rfl) rfl
theorem q2025 : (Jvm.Cond.code ({ cls := "TouchShelfModel", name := "readings", desc := "(III)J" } : Jvm.MethodName) prog_19_method_59_code (4 : Nat) (Option.some Jvm.ClassFile.FieldType.long)) ∈ lw_all := lw_g (lw_at lw_m9 10 rfl) rfl
theorem q2026 : (Jvm.Cond.constantLong "TouchShelfModel" (351 : Nat) (-1 : Int64)) ∈ lw_all := lw_g (lw_at lw_m9 11 rfl) rfl
theorem q2027 : (Jvm.Cond.methodLink "TouchShelfModel" (353 : Nat) ({ cls := "TouchShelfModel", name := "readingsOf", desc := "(I)J" } : Jvm.MethodName)) ∈ lw_all := lw_g (lw_at lw_m9 12 rfl) rfl
theorem q2028 : (Jvm.Cond.privateMethod ({ cls := "TouchShelfModel", name := "readingsOf", desc := "(I)J" } : Jvm.MethodName)) ∈ lw_tbl := lw_at lw_m9 13 rfl
theorem q2029 : (Jvm.Cond.instanceMethod ({ cls := "TouchShelfModel", name := "readingsOf", desc := "(I)J" } : Jvm.MethodName)) ∈ lw_all := lw_g (lw_at lw_m9 14 rfl) rfl
theorem q2030 : (Jvm.Cond.code ({ cls := "TouchShelfModel", name := "readingsOf", desc := "(I)J" } : Jvm.MethodName) prog_19_method_36_code (5 : Nat) (Option.some Jvm.ClassFile.FieldType.long)) ∈ lw_all := lw_g (lw_at lw_m9 15 rfl) rfl
theorem q2031 : (Jvm.Cond.methodLink "TouchShelfModel" (257 : Nat) ({ cls := "TouchShelfModel", name := "mayBe", desc := "(III)Z" } : Jvm.MethodName)) ∈ lw_all := lw_g (lw_at lw_m9 16 rfl) rfl
theorem q2032 : (Jvm.Cond.privateMethod ({ cls := "TouchShelfModel", name := "mayBe", desc := "(III)Z" } : Jvm.MethodName)) ∈ lw_tbl := lw_at lw_m9 17 rfl
theorem q2033 : (Jvm.Cond.instanceMethod ({ cls := "TouchShelfModel", name := "mayBe", desc := "(III)Z" } : Jvm.MethodName)) ∈ lw_all := lw_g (lw_at lw_m9 18 rfl) rfl
theorem q2034 : (Jvm.Cond.code ({ cls := "TouchShelfModel", name := "mayBe", desc := "(III)Z" } : Jvm.MethodName) prog_19_method_35_code (4 : Nat) (Option.some Jvm.ClassFile.FieldType.boolean)) ∈ lw_all := lw_g (lw_at lw_m9 19 rfl) rfl
theorem q2036 : (Jvm.Cond.instanceMethod ({ cls := "TouchShelfModel", name := "between", desc := "(IIII)J" } : Jvm.MethodName)) ∈ lw_all := lw_g (lw_at lw_m9 21 rfl) rfl
theorem q2037 : (Jvm.Cond.selects "TouchShelfModel" ({ cls := "TouchShelfModel", name := "between", desc := "(IIII)J" } : Jvm.MethodName) ({ cls := "TouchShelfModel", name := "between", desc := "(IIII)J" } : Jvm.MethodName)) ∈ lw_all := lw_g (lw_at lw_m9 22 rfl) rfl
theorem q2038 : (Jvm.Cond.code ({ cls := "TouchShelfModel", name := "between", desc := "(IIII)J" } : Jvm.MethodName) prog_19_method_60_code (10 : Nat) (Option.some Jvm.ClassFile.FieldType.long)) ∈ lw_all := lw_g (lw_at lw_m9 23 rfl) rfl
theorem q2040 : (Jvm.Cond.instanceMethod ({ cls := "TouchShelfModel", name := "fresh", desc := "(II)I" } : Jvm.MethodName)) ∈ lw_all := lw_g (lw_at lw_m9 25 rfl) rfl
theorem q2041 : (Jvm.Cond.selects "TouchShelfModel" ({ cls := "TouchShelfModel", name := "fresh", desc := "(II)I" } : Jvm.MethodName) ({ cls := "TouchShelfModel", name := "fresh", desc := "(II)I" } : Jvm.MethodName)) ∈ lw_all := lw_g (lw_at lw_m9 26 rfl) rfl
theorem q2042 : (Jvm.Cond.code ({ cls := "TouchShelfModel", name := "fresh", desc := "(II)I" } : Jvm.MethodName) prog_19_method_61_code (6 : Nat) (Option.some Jvm.ClassFile.FieldType.int)) ∈ lw_all := lw_g (lw_at lw_m9 27 rfl) rfl
theorem q2043 : (Jvm.Cond.methodLink "TouchShelfModel" (357 : Nat) ({ cls := "TouchShelfModel", name := "apartFrom", desc := "(II)J" } : Jvm.MethodName)) ∈ lw_all := lw_g (lw_at lw_m9 28 rfl) rfl
theorem q2044 : (Jvm.Cond.privateMethod ({ cls := "TouchShelfModel", name := "apartFrom", desc := "(II)J" } : Jvm.MethodName)) ∈ lw_tbl := lw_at lw_m9 29 rfl
theorem q2045 : (Jvm.Cond.instanceMethod ({ cls := "TouchShelfModel", name := "apartFrom", desc := "(II)J" } : Jvm.MethodName)) ∈ lw_all := lw_g (lw_at lw_m9 30 rfl) rfl
theorem q2046 : (Jvm.Cond.code ({ cls := "TouchShelfModel", name := "apartFrom", desc := "(II)J" } : Jvm.MethodName) prog_19_method_38_code (6 : Nat) (Option.some Jvm.ClassFile.FieldType.long)) ∈ lw_all := lw_g (lw_at lw_m9 31 rfl) rfl
theorem q2048 : (Jvm.Cond.instanceMethod ({ cls := "TouchShelfModel", name := "set", desc := "(IIZI)I" } : Jvm.MethodName)) ∈ lw_all := lw_g (lw_at lw_m9 33 rfl) rfl
theorem q2049 : (Jvm.Cond.selects "TouchShelfModel" ({ cls := "TouchShelfModel", name := "set", desc := "(IIZI)I" } : Jvm.MethodName) ({ cls := "TouchShelfModel", name := "set", desc := "(IIZI)I" } : Jvm.MethodName)) ∈ lw_all := lw_g (lw_at lw_m9 34 rfl) rfl
theorem q2050 : (Jvm.Cond.code ({ cls := "TouchShelfModel", name := "set", desc := "(IIZI)I" } : Jvm.MethodName) prog_19_method_63_code (11 : Nat) (Option.some Jvm.ClassFile.FieldType.int)) ∈ lw_all := lw_g (lw_at lw_m9 35 rfl) rfl
theorem q2051 : (Jvm.Cond.methodLink "TouchShelfModel" (364 : Nat) ({ cls := "TouchShelfModel", name := "findSet", desc := "(JI)V" } : Jvm.MethodName)) ∈ lw_all := lw_g (lw_at lw_m9 36 rfl) rfl
theorem q2052 : (Jvm.Cond.privateMethod ({ cls := "TouchShelfModel", name := "findSet", desc := "(JI)V" } : Jvm.MethodName)) ∈ lw_tbl := lw_at lw_m9 37 rfl
theorem q2053 : (Jvm.Cond.instanceMethod ({ cls := "TouchShelfModel", name := "findSet", desc := "(JI)V" } : Jvm.MethodName)) ∈ lw_all := lw_g (lw_at lw_m9 38 rfl) rfl
theorem q2054 : (Jvm.Cond.code ({ cls := "TouchShelfModel", name := "findSet", desc := "(JI)V" } : Jvm.MethodName) prog_19_method_62_code (7 : Nat) (Option.none : Option Jvm.ClassFile.FieldType)) ∈ lw_all := lw_g (lw_at lw_m9 39 rfl) rfl
theorem q2055 : (Jvm.Cond.methodLink "TouchShelfModel" (367 : Nat) ({ cls := "TouchShelfModel", name := "nthOf", desc := "(JI)I" } : Jvm.MethodName)) ∈ lw_all := lw_g (lw_at lw_m9 40 rfl) rfl
theorem q2056 : (Jvm.Cond.static ({ cls := "TouchShelfModel", name := "nthOf", desc := "(JI)I" } : Jvm.MethodName)) ∈ lw_all := lw_g (lw_at lw_m9 41 rfl) rfl
theorem q2057 : (Jvm.Cond.code ({ cls := "TouchShelfModel", name := "nthOf", desc := "(JI)I" } : Jvm.MethodName) prog_19_method_64_code (5 : Nat) (Option.some Jvm.ClassFile.FieldType.int)) ∈ lw_all := lw_g (lw_at lw_m9 42 rfl) rfl
theorem q2059 : (Jvm.Cond.instanceMethod ({ cls := "TouchShelfModel", name := "walk", desc := "(IIII)I" } : Jvm.MethodName)) ∈ lw_all := lw_g (lw_at lw_m9 44 rfl) rfl
theorem q2060 : (Jvm.Cond.selects "TouchShelfModel" ({ cls := "TouchShelfModel", name := "walk", desc := "(IIII)I" } : Jvm.MethodName) ({ cls := "TouchShelfModel", name := "walk", desc := "(IIII)I" } : Jvm.MethodName)) ∈ lw_all := lw_g (lw_at lw_m9 45 rfl) rfl
theorem q2061 : (Jvm.Cond.code ({ cls := "TouchShelfModel", name := "walk", desc := "(IIII)I" } : Jvm.MethodName) prog_19_method_65_code (6 : Nat) (Option.some Jvm.ClassFile.FieldType.int)) ∈ lw_all := lw_g (lw_at lw_m9 46 rfl) rfl
theorem q2063 : (Jvm.Cond.instanceMethod ({ cls := "TouchShelfModel", name := "halving", desc := "(IIIZ)I" } : Jvm.MethodName)) ∈ lw_all := lw_g (lw_at lw_m9 48 rfl) rfl
theorem q2064 : (Jvm.Cond.selects "TouchShelfModel" ({ cls := "TouchShelfModel", name := "halving", desc := "(IIIZ)I" } : Jvm.MethodName) ({ cls := "TouchShelfModel", name := "halving", desc := "(IIIZ)I" } : Jvm.MethodName)) ∈ lw_all := lw_g (lw_at lw_m9 49 rfl) rfl
theorem q2065 : (Jvm.Cond.code ({ cls := "TouchShelfModel", name := "halving", desc := "(IIIZ)I" } : Jvm.MethodName) prog_19_method_66_code (11 : Nat) (Option.some Jvm.ClassFile.FieldType.int)) ∈ lw_all := lw_g (lw_at lw_m9 50 rfl) rfl
theorem q2067 : (Jvm.Cond.instanceMethod ({ cls := "TouchShelfModel", name := "mean", desc := "(IIZ)I" } : Jvm.MethodName)) ∈ lw_all := lw_g (lw_at lw_m9 52 rfl) rfl
theorem q2068 : (Jvm.Cond.selects "TouchShelfModel" ({ cls := "TouchShelfModel", name := "mean", desc := "(IIZ)I" } : Jvm.MethodName) ({ cls := "TouchShelfModel", name := "mean", desc := "(IIZ)I" } : Jvm.MethodName)) ∈ lw_all := lw_g (lw_at lw_m9 53 rfl) rfl
theorem q2069 : (Jvm.Cond.code ({ cls := "TouchShelfModel", name := "mean", desc := "(IIZ)I" } : Jvm.MethodName) prog_19_method_71_code (7 : Nat) (Option.some Jvm.ClassFile.FieldType.int)) ∈ lw_all := lw_g (lw_at lw_m9 54 rfl) rfl
theorem q2070 : (Jvm.Cond.methodLink "TouchShelfModel" (371 : Nat) ({ cls := "TouchShelfModel", name := "weights", desc := "()I" } : Jvm.MethodName)) ∈ lw_all := lw_g (lw_at lw_m9 55 rfl) rfl
theorem q2071 : (Jvm.Cond.privateMethod ({ cls := "TouchShelfModel", name := "weights", desc := "()I" } : Jvm.MethodName)) ∈ lw_tbl := lw_at lw_m9 56 rfl
theorem q2072 : (Jvm.Cond.instanceMethod ({ cls := "TouchShelfModel", name := "weights", desc := "()I" } : Jvm.MethodName)) ∈ lw_all := lw_g (lw_at lw_m9 57 rfl) rfl
theorem q2073 : (Jvm.Cond.code ({ cls := "TouchShelfModel", name := "weights", desc := "()I" } : Jvm.MethodName) prog_19_method_67_code (3 : Nat) (Option.some Jvm.ClassFile.FieldType.int)) ∈ lw_all := lw_g (lw_at lw_m9 58 rfl) rfl
theorem q2074 : (Jvm.Cond.methodLink "TouchShelfModel" (374 : Nat) ({ cls := "TouchShelfModel", name := "isOrder", desc := "(I)Z" } : Jvm.MethodName)) ∈ lw_all := lw_g (lw_at lw_m9 59 rfl) rfl
theorem q2075 : (Jvm.Cond.privateMethod ({ cls := "TouchShelfModel", name := "isOrder", desc := "(I)Z" } : Jvm.MethodName)) ∈ lw_tbl := lw_at lw_m9 60 rfl
theorem q2076 : (Jvm.Cond.instanceMethod ({ cls := "TouchShelfModel", name := "isOrder", desc := "(I)Z" } : Jvm.MethodName)) ∈ lw_all := lw_g (lw_at lw_m9 61 rfl) rfl
theorem q2077 : (Jvm.Cond.code ({ cls := "TouchShelfModel", name := "isOrder", desc := "(I)Z" } : Jvm.MethodName) prog_19_method_68_code (5 : Nat) (Option.some Jvm.ClassFile.FieldType.boolean)) ∈ lw_all := lw_g (lw_at lw_m9 62 rfl) rfl
theorem q2078 : (Jvm.Cond.methodLink "TouchShelfModel" (377 : Nat) ({ cls := "TouchShelfModel", name := "feltBy", desc := "()I" } : Jvm.MethodName)) ∈ lw_all := lw_g (lw_at lw_m9 63 rfl) rfl
theorem q2079 : (Jvm.Cond.privateMethod ({ cls := "TouchShelfModel", name := "feltBy", desc := "()I" } : Jvm.MethodName)) ∈ lw_tbl := lw_at lw_m9 64 rfl
theorem q2080 : (Jvm.Cond.instanceMethod ({ cls := "TouchShelfModel", name := "feltBy", desc := "()I" } : Jvm.MethodName)) ∈ lw_all := lw_g (lw_at lw_m9 65 rfl) rfl
theorem q2081 : (Jvm.Cond.code ({ cls := "TouchShelfModel", name := "feltBy", desc := "()I" } : Jvm.MethodName) prog_19_method_69_code (5 : Nat) (Option.some Jvm.ClassFile.FieldType.int)) ∈ lw_all := lw_g (lw_at lw_m9 66 rfl) rfl
theorem q2082 : (Jvm.Cond.methodLink "TouchShelfModel" (380 : Nat) ({ cls := "TouchShelfModel", name := "common", desc := "(II)I" } : Jvm.MethodName)) ∈ lw_all := lw_g (lw_at lw_m9 67 rfl) rfl
theorem q2083 : (Jvm.Cond.static ({ cls := "TouchShelfModel", name := "common", desc := "(II)I" } : Jvm.MethodName)) ∈ lw_all := lw_g (lw_at lw_m9 68 rfl) rfl
theorem q2084 : (Jvm.Cond.code ({ cls := "TouchShelfModel", name := "common", desc := "(II)I" } : Jvm.MethodName) prog_19_method_70_code (5 : Nat) (Option.some Jvm.ClassFile.FieldType.int)) ∈ lw_all := lw_g (lw_at lw_m9 69 rfl) rfl
theorem q2086 : (Jvm.Cond.instanceMethod ({ cls := "TouchShelfModel", name := "best", desc := "(II)I" } : Jvm.MethodName)) ∈ lw_all := lw_g (lw_at lw_m9 71 rfl) rfl
theorem q2087 : (Jvm.Cond.selects "TouchShelfModel" ({ cls := "TouchShelfModel", name := "best", desc := "(II)I" } : Jvm.MethodName) ({ cls := "TouchShelfModel", name := "best", desc := "(II)I" } : Jvm.MethodName)) ∈ lw_all := lw_g (lw_at lw_m9 72 rfl) rfl
theorem q2088 : (Jvm.Cond.code ({ cls := "TouchShelfModel", name := "best", desc := "(II)I" } : Jvm.MethodName) prog_19_method_72_code (6 : Nat) (Option.some Jvm.ClassFile.FieldType.int)) ∈ lw_all := lw_g (lw_at lw_m9 73 rfl) rfl
theorem q2090 : (Jvm.Cond.instanceMethod ({ cls := "TouchShelfModel", name := "deed", desc := "(III)I" } : Jvm.MethodName)) ∈ lw_all := lw_g (lw_at lw_m9 75 rfl) rfl
theorem q2091 : (Jvm.Cond.selects "TouchShelfModel" ({ cls := "TouchShelfModel", name := "deed", desc := "(III)I" } : Jvm.MethodName) ({ cls := "TouchShelfModel", name := "deed", desc := "(III)I" } : Jvm.MethodName)) ∈ lw_all := lw_g (lw_at lw_m9 76 rfl) rfl
theorem q2092 : (Jvm.Cond.code ({ cls := "TouchShelfModel", name := "deed", desc := "(III)I" } : Jvm.MethodName) prog_19_method_75_code (4 : Nat) (Option.some Jvm.ClassFile.FieldType.int)) ∈ lw_all := lw_g (lw_at lw_m9 77 rfl) rfl
theorem q2093 : (Jvm.Cond.methodLink "TouchShelfModel" (386 : Nat) ({ cls := "TouchShelfModel", name := "deeds", desc := "()I" } : Jvm.MethodName)) ∈ lw_all := lw_g (lw_at lw_m9 78 rfl) rfl
theorem q2094 : (Jvm.Cond.privateMethod ({ cls := "TouchShelfModel", name := "deeds", desc := "()I" } : Jvm.MethodName)) ∈ lw_tbl := lw_at lw_m9 79 rfl
theorem q2095 : (Jvm.Cond.instanceMethod ({ cls := "TouchShelfModel", name := "deeds", desc := "()I" } : Jvm.MethodName)) ∈ lw_all := lw_g (lw_at lw_m9 80 rfl) rfl
theorem q2096 : (Jvm.Cond.code ({ cls := "TouchShelfModel", name := "deeds", desc := "()I" } : Jvm.MethodName) prog_19_method_73_code (1 : Nat) (Option.some Jvm.ClassFile.FieldType.int)) ∈ lw_all := lw_g (lw_at lw_m9 81 rfl) rfl
theorem q2097 : (Jvm.Cond.methodLink "TouchShelfModel" (389 : Nat) ({ cls := "TouchShelfModel", name := "deedOf", desc := "(II)I" } : Jvm.MethodName)) ∈ lw_all := lw_g (lw_at lw_m9 82 rfl) rfl
theorem q2098 : (Jvm.Cond.privateMethod ({ cls := "TouchShelfModel", name := "deedOf", desc := "(II)I" } : Jvm.MethodName)) ∈ lw_tbl := lw_at lw_m9 83 rfl
theorem q2099 : (Jvm.Cond.instanceMethod ({ cls := "TouchShelfModel", name := "deedOf", desc := "(II)I" } : Jvm.MethodName)) ∈ lw_all := lw_g (lw_at lw_m9 84 rfl) rfl
theorem q2100 : (Jvm.Cond.code ({ cls := "TouchShelfModel", name := "deedOf", desc := "(II)I" } : Jvm.MethodName) prog_19_method_74_code (3 : Nat) (Option.some Jvm.ClassFile.FieldType.int)) ∈ lw_all := lw_g (lw_at lw_m9 85 rfl) rfl
theorem q2102 : (Jvm.Cond.instanceMethod ({ cls := "TouchShelfModel", name := "stop", desc := "(II)I" } : Jvm.MethodName)) ∈ lw_all := lw_g (lw_at lw_m9 87 rfl) rfl
theorem q2103 : (Jvm.Cond.selects "TouchShelfModel" ({ cls := "TouchShelfModel", name := "stop", desc := "(II)I" } : Jvm.MethodName) ({ cls := "TouchShelfModel", name := "stop", desc := "(II)I" } : Jvm.MethodName)) ∈ lw_all := lw_g (lw_at lw_m9 88 rfl) rfl
theorem q2104 : (Jvm.Cond.code ({ cls := "TouchShelfModel", name := "stop", desc := "(II)I" } : Jvm.MethodName) prog_19_method_82_code (3 : Nat) (Option.some Jvm.ClassFile.FieldType.int)) ∈ lw_all := lw_g (lw_at lw_m9 89 rfl) rfl
theorem q2105 : (Jvm.Cond.methodLink "TouchShelfModel" (416 : Nat) ({ cls := "TouchShelfModel", name := "begin", desc := "()V" } : Jvm.MethodName)) ∈ lw_all := lw_g (lw_at lw_m9 90 rfl) rfl
theorem q2106 : (Jvm.Cond.privateMethod ({ cls := "TouchShelfModel", name := "begin", desc := "()V" } : Jvm.MethodName)) ∈ lw_tbl := lw_at lw_m9 91 rfl
theorem q2107 : (Jvm.Cond.instanceMethod ({ cls := "TouchShelfModel", name := "begin", desc := "()V" } : Jvm.MethodName)) ∈ lw_all := lw_g (lw_at lw_m9 92 rfl) rfl
theorem q2108 : (Jvm.Cond.code ({ cls := "TouchShelfModel", name := "begin", desc := "()V" } : Jvm.MethodName) prog_19_method_76_code (2 : Nat) (Option.none : Option Jvm.ClassFile.FieldType)) ∈ lw_all := lw_g (lw_at lw_m9 93 rfl) rfl
theorem q2109 : (Jvm.Cond.methodLink "TouchShelfModel" (419 : Nat) ({ cls := "TouchShelfModel", name := "doAll", desc := "(I)I" } : Jvm.MethodName)) ∈ lw_all := lw_g (lw_at lw_m9 94 rfl) rfl
theorem q2110 : (Jvm.Cond.privateMethod ({ cls := "TouchShelfModel", name := "doAll", desc := "(I)I" } : Jvm.MethodName)) ∈ lw_tbl := lw_at lw_m9 95 rfl
theorem q2111 : (Jvm.Cond.instanceMethod ({ cls := "TouchShelfModel", name := "doAll", desc := "(I)I" } : Jvm.MethodName)) ∈ lw_all := lw_g (lw_at lw_m9 96 rfl) rfl
theorem q2112 : (Jvm.Cond.code ({ cls := "TouchShelfModel", name := "doAll", desc := "(I)I" } : Jvm.MethodName) prog_19_method_80_code (3 : Nat) (Option.some Jvm.ClassFile.FieldType.int)) ∈ lw_all := lw_g (lw_at lw_m9 97 rfl) rfl
theorem q2113 : (Jvm.Cond.methodLink "TouchShelfModel" (413 : Nat) ({ cls := "TouchShelfModel", name := "does", desc := "(I)Z" } : Jvm.MethodName)) ∈ lw_all := lw_g (lw_at lw_m9 98 rfl) rfl
theorem q2114 : (Jvm.Cond.privateMethod ({ cls := "TouchShelfModel", name := "does", desc := "(I)Z" } : Jvm.MethodName)) ∈ lw_tbl := lw_at lw_m9 99 rfl
theorem q2115 : (Jvm.Cond.instanceMethod ({ cls := "TouchShelfModel", name := "does", desc := "(I)Z" } : Jvm.MethodName)) ∈ lw_all := lw_g (lw_at lw_m9 100 rfl) rfl
theorem q2116 : (Jvm.Cond.code ({ cls := "TouchShelfModel", name := "does", desc := "(I)Z" } : Jvm.MethodName) prog_19_method_79_code (10 : Nat) (Option.some Jvm.ClassFile.FieldType.boolean)) ∈ lw_all := lw_g (lw_at lw_m9 101 rfl) rfl
theorem q2117 : (Jvm.Cond.methodLink "TouchShelfModel" (407 : Nat) ({ cls := "TouchShelfModel", name := "handTo", desc := "(II)V" } : Jvm.MethodName)) ∈ lw_all := lw_g (lw_at lw_m9 102 rfl) rfl
theorem q2118 : (Jvm.Cond.privateMethod ({ cls := "TouchShelfModel", name := "handTo", desc := "(II)V" } : Jvm.MethodName)) ∈ lw_tbl := lw_at lw_m9 103 rfl
theorem q2119 : (Jvm.Cond.instanceMethod ({ cls := "TouchShelfModel", name := "handTo", desc := "(II)V" } : Jvm.MethodName)) ∈ lw_all := lw_g (lw_at lw_m9 104 rfl) rfl
theorem q2120 : (Jvm.Cond.code ({ cls := "TouchShelfModel", name := "handTo", desc := "(II)V" } : Jvm.MethodName) prog_19_method_77_code (5 : Nat) (Option.none : Option Jvm.ClassFile.FieldType)) ∈ lw_all := lw_g (lw_at lw_m9 105 rfl) rfl
theorem q2121 : (Jvm.Cond.methodLink "TouchShelfModel" (410 : Nat) ({ cls := "TouchShelfModel", name := "change", desc := "(II)V" } : Jvm.MethodName)) ∈ lw_all := lw_g (lw_at lw_m9 106 rfl) rfl
theorem q2122 : (Jvm.Cond.privateMethod ({ cls := "TouchShelfModel", name := "change", desc := "(II)V" } : Jvm.MethodName)) ∈ lw_tbl := lw_at lw_m9 107 rfl
theorem q2123 : (Jvm.Cond.instanceMethod ({ cls := "TouchShelfModel", name := "change", desc := "(II)V" } : Jvm.MethodName)) ∈ lw_all := lw_g (lw_at lw_m9 108 rfl) rfl
theorem q2124 : (Jvm.Cond.code ({ cls := "TouchShelfModel", name := "change", desc := "(II)V" } : Jvm.MethodName) prog_19_method_78_code (3 : Nat) (Option.none : Option Jvm.ClassFile.FieldType)) ∈ lw_all := lw_g (lw_at lw_m9 109 rfl) rfl
theorem q2126 : (Jvm.Cond.instanceMethod ({ cls := "TouchShelfModel", name := "lies", desc := "(IIIII)I" } : Jvm.MethodName)) ∈ lw_all := lw_g (lw_at lw_m9 111 rfl) rfl
theorem q2127 : (Jvm.Cond.selects "TouchShelfModel" ({ cls := "TouchShelfModel", name := "lies", desc := "(IIIII)I" } : Jvm.MethodName) ({ cls := "TouchShelfModel", name := "lies", desc := "(IIIII)I" } : Jvm.MethodName)) ∈ lw_all := lw_g (lw_at lw_m9 112 rfl) rfl
theorem q2128 : (Jvm.Cond.code ({ cls := "TouchShelfModel", name := "lies", desc := "(IIIII)I" } : Jvm.MethodName) prog_19_method_83_code (6 : Nat) (Option.some Jvm.ClassFile.FieldType.int)) ∈ lw_all := lw_g (lw_at lw_m9 113 rfl) rfl
theorem q2129 : (Jvm.Cond.methodLink "TouchShelfModel" (422 : Nat) ({ cls := "TouchShelfModel", name := "layState", desc := "(III)Z" } : Jvm.MethodName)) ∈ lw_all := lw_g (lw_at lw_m9 114 rfl) rfl
theorem q2130 : (Jvm.Cond.privateMethod ({ cls := "TouchShelfModel", name := "layState", desc := "(III)Z" } : Jvm.MethodName)) ∈ lw_tbl := lw_at lw_m9 115 rfl
theorem q2131 : (Jvm.Cond.instanceMethod ({ cls := "TouchShelfModel", name := "layState", desc := "(III)Z" } : Jvm.MethodName)) ∈ lw_all := lw_g (lw_at lw_m9 116 rfl) rfl
theorem q2132 : (Jvm.Cond.code ({ cls := "TouchShelfModel", name := "layState", desc := "(III)Z" } : Jvm.MethodName) prog_19_method_81_code (4 : Nat) (Option.some Jvm.ClassFile.FieldType.boolean)) ∈ lw_all := lw_g (lw_at lw_m9 117 rfl) rfl
theorem q2134 : (Jvm.Cond.instanceMethod ({ cls := "TouchShelfModel", name := "state", desc := "(IIII)J" } : Jvm.MethodName)) ∈ lw_all := lw_g (lw_at lw_m9 119 rfl) rfl
theorem q2135 : (Jvm.Cond.selects "TouchShelfModel" ({ cls := "TouchShelfModel", name := "state", desc := "(IIII)J" } : Jvm.MethodName) ({ cls := "TouchShelfModel", name := "state", desc := "(IIII)J" } : Jvm.MethodName)) ∈ lw_all := lw_g (lw_at lw_m9 120 rfl) rfl
theorem q2136 : (Jvm.Cond.code ({ cls := "TouchShelfModel", name := "state", desc := "(IIII)J" } : Jvm.MethodName) prog_19_method_88_code (5 : Nat) (Option.some Jvm.ClassFile.FieldType.long)) ∈ lw_all := lw_g (lw_at lw_m9 121 rfl) rfl
theorem q2137 : (Jvm.Cond.constantLong "TouchShelfModel" (425 : Nat) (-2 : Int64)) ∈ lw_all := lw_g (lw_at lw_m9 122 rfl) rfl
theorem q2138 : (Jvm.Cond.methodLink "TouchShelfModel" (427 : Nat) ({ cls := "TouchShelfModel", name := "lentSet", desc := "()J" } : Jvm.MethodName)) ∈ lw_all := lw_g (lw_at lw_m9 123 rfl) rfl
theorem q2139 : (Jvm.Cond.privateMethod ({ cls := "TouchShelfModel", name := "lentSet", desc := "()J" } : Jvm.MethodName)) ∈ lw_tbl := lw_at lw_m9 124 rfl
theorem q2140 : (Jvm.Cond.instanceMethod ({ cls := "TouchShelfModel", name := "lentSet", desc := "()J" } : Jvm.MethodName)) ∈ lw_all := lw_g (lw_at lw_m9 125 rfl) rfl
theorem q2141 : (Jvm.Cond.code ({ cls := "TouchShelfModel", name := "lentSet", desc := "()J" } : Jvm.MethodName) prog_19_method_84_code (4 : Nat) (Option.some Jvm.ClassFile.FieldType.long)) ∈ lw_all := lw_g (lw_at lw_m9 126 rfl) rfl
theorem q2142 : (Jvm.Cond.methodLink "TouchShelfModel" (430 : Nat) ({ cls := "TouchShelfModel", name := "movedNow", desc := "()I" } : Jvm.MethodName)) ∈ lw_all := lw_g (lw_at lw_m9 127 rfl) rfl
theorem q2143 : (Jvm.Cond.privateMethod ({ cls := "TouchShelfModel", name := "movedNow", desc := "()I" } : Jvm.MethodName)) ∈ lw_tbl := lw_at lw_m9 128 rfl
theorem q2144 : (Jvm.Cond.instanceMethod ({ cls := "TouchShelfModel", name := "movedNow", desc := "()I" } : Jvm.MethodName)) ∈ lw_all := lw_g (lw_at lw_m9 129 rfl) rfl
theorem q2145 : (Jvm.Cond.code ({ cls := "TouchShelfModel", name := "movedNow", desc := "()I" } : Jvm.MethodName) prog_19_method_85_code (3 : Nat) (Option.some Jvm.ClassFile.FieldType.int)) ∈ lw_all := lw_g (lw_at lw_m9 130 rfl) rfl
theorem q2146 : (Jvm.Cond.methodLink "TouchShelfModel" (433 : Nat) ({ cls := "TouchShelfModel", name := "sure", desc := "()I" } : Jvm.MethodName)) ∈ lw_all := lw_g (lw_at lw_m9 131 rfl) rfl
theorem q2147 : (Jvm.Cond.privateMethod ({ cls := "TouchShelfModel", name := "sure", desc := "()I" } : Jvm.MethodName)) ∈ lw_tbl := lw_at lw_m9 132 rfl
theorem q2148 : (Jvm.Cond.instanceMethod ({ cls := "TouchShelfModel", name := "sure", desc := "()I" } : Jvm.MethodName)) ∈ lw_all := lw_g (lw_at lw_m9 133 rfl) rfl
theorem q2149 : (Jvm.Cond.code ({ cls := "TouchShelfModel", name := "sure", desc := "()I" } : Jvm.MethodName) prog_19_method_86_code (4 : Nat) (Option.some Jvm.ClassFile.FieldType.int)) ∈ lw_all := lw_g (lw_at lw_m9 134 rfl) rfl
theorem q2150 : (Jvm.Cond.methodLink "TouchShelfModel" (436 : Nat) ({ cls := "TouchShelfModel", name := "inOrder", desc := "()J" } : Jvm.MethodName)) ∈ lw_all := lw_g (lw_at lw_m9 135 rfl) rfl
theorem q2151 : (Jvm.Cond.privateMethod ({ cls := "TouchShelfModel", name := "inOrder", desc := "()J" } : Jvm.MethodName)) ∈ lw_tbl := lw_at lw_m9 136 rfl
theorem q2152 : (Jvm.Cond.instanceMethod ({ cls := "TouchShelfModel", name := "inOrder", desc := "()J" } : Jvm.MethodName)) ∈ lw_all := lw_g (lw_at lw_m9 137 rfl) rfl
theorem q2153 : (Jvm.Cond.code ({ cls := "TouchShelfModel", name := "inOrder", desc := "()J" } : Jvm.MethodName) prog_19_method_87_code (4 : Nat) (Option.some Jvm.ClassFile.FieldType.long)) ∈ lw_all := lw_g (lw_at lw_m9 138 rfl) rfl
theorem q2155 : (Jvm.Cond.instanceMethod ({ cls := "TouchShelfModel", name := "may", desc := "(IIIIIZ)J" } : Jvm.MethodName)) ∈ lw_all := lw_g (lw_at lw_m9 140 rfl) rfl
theorem q2156 : (Jvm.Cond.selects "TouchShelfModel" ({ cls := "TouchShelfModel", name := "may", desc := "(IIIIIZ)J" } : Jvm.MethodName) ({ cls := "TouchShelfModel", name := "may", desc := "(IIIIIZ)J" } : Jvm.MethodName)) ∈ lw_all := lw_g (lw_at lw_m9 141 rfl) rfl
theorem q2157 : (Jvm.Cond.code ({ cls := "TouchShelfModel", name := "may", desc := "(IIIIIZ)J" } : Jvm.MethodName) prog_19_method_89_code (11 : Nat) (Option.some Jvm.ClassFile.FieldType.long)) ∈ lw_all := lw_g (lw_at lw_m9 142 rfl) rfl
theorem q2159 : (Jvm.Cond.instanceMethod ({ cls := "TouchShelfModel", name := "round", desc := "(II)I" } : Jvm.MethodName)) ∈ lw_all := lw_g (lw_at lw_m9 144 rfl) rfl
theorem q2160 : (Jvm.Cond.selects "TouchShelfModel" ({ cls := "TouchShelfModel", name := "round", desc := "(II)I" } : Jvm.MethodName) ({ cls := "TouchShelfModel", name := "round", desc := "(II)I" } : Jvm.MethodName)) ∈ lw_all := lw_g (lw_at lw_m9 145 rfl) rfl
theorem q2161 : (Jvm.Cond.code ({ cls := "TouchShelfModel", name := "round", desc := "(II)I" } : Jvm.MethodName) prog_19_method_98_code (4 : Nat) (Option.some Jvm.ClassFile.FieldType.int)) ∈ lw_all := lw_g (lw_at lw_m9 146 rfl) rfl
theorem q2162 : (Jvm.Cond.methodLink "TouchShelfModel" (462 : Nat) ({ cls := "TouchShelfModel", name := "layRound", desc := "(I)Z" } : Jvm.MethodName)) ∈ lw_all := lw_g (lw_at lw_m9 147 rfl) rfl
theorem q2163 : (Jvm.Cond.privateMethod ({ cls := "TouchShelfModel", name := "layRound", desc := "(I)Z" } : Jvm.MethodName)) ∈ lw_tbl := lw_at lw_m9 148 rfl
theorem q2164 : (Jvm.Cond.instanceMethod ({ cls := "TouchShelfModel", name := "layRound", desc := "(I)Z" } : Jvm.MethodName)) ∈ lw_all := lw_g (lw_at lw_m9 149 rfl) rfl
theorem q2165 : (Jvm.Cond.code ({ cls := "TouchShelfModel", name := "layRound", desc := "(I)Z" } : Jvm.MethodName) prog_19_method_90_code (3 : Nat) (Option.some Jvm.ClassFile.FieldType.boolean)) ∈ lw_all := lw_g (lw_at lw_m9 150 rfl) rfl
theorem q2166 : (Jvm.Cond.methodLink "TouchShelfModel" (465 : Nat) ({ cls := "TouchShelfModel", name := "serve", desc := "()I" } : Jvm.MethodName)) ∈ lw_all := lw_g (lw_at lw_m9 151 rfl) rfl
theorem q2167 : (Jvm.Cond.privateMethod ({ cls := "TouchShelfModel", name := "serve", desc := "()I" } : Jvm.MethodName)) ∈ lw_tbl := lw_at lw_m9 152 rfl
theorem q2168 : (Jvm.Cond.instanceMethod ({ cls := "TouchShelfModel", name := "serve", desc := "()I" } : Jvm.MethodName)) ∈ lw_all := lw_g (lw_at lw_m9 153 rfl) rfl
theorem q2169 : (Jvm.Cond.code ({ cls := "TouchShelfModel", name := "serve", desc := "()I" } : Jvm.MethodName) prog_19_method_96_code (5 : Nat) (Option.some Jvm.ClassFile.FieldType.int)) ∈ lw_all := lw_g (lw_at lw_m9 154 rfl) rfl
theorem q2170 : (Jvm.Cond.constant "TouchShelfModel" (458 : Nat) (1000000 : Int32)) ∈ lw_all := lw_g (lw_at lw_m9 155 rfl) rfl
theorem q2171 : (Jvm.Cond.methodLink "TouchShelfModel" (459 : Nat) ({ cls := "TouchShelfModel", name := "costBy", desc := "(III)I" } : Jvm.MethodName)) ∈ lw_all := lw_g (lw_at lw_m9 156 rfl) rfl
theorem q2172 : (Jvm.Cond.privateMethod ({ cls := "TouchShelfModel", name := "costBy", desc := "(III)I" } : Jvm.MethodName)) ∈ lw_tbl := lw_at lw_m9 157 rfl
theorem q2173 : (Jvm.Cond.instanceMethod ({ cls := "TouchShelfModel", name := "costBy", desc := "(III)I" } : Jvm.MethodName)) ∈ lw_all := lw_g (lw_at lw_m9 158 rfl) rfl
theorem q2174 : (Jvm.Cond.code ({ cls := "TouchShelfModel", name := "costBy", desc := "(III)I" } : Jvm.MethodName) prog_19_method_95_code (4 : Nat) (Option.some Jvm.ClassFile.FieldType.int)) ∈ lw_all := lw_g (lw_at lw_m9 159 rfl) rfl
theorem q2175 : (Jvm.Cond.methodLink "TouchShelfModel" (448 : Nat) ({ cls := "TouchShelfModel", name := "spotOf", desc := "(II)I" } : Jvm.MethodName)) ∈ lw_all := lw_g (lw_at lw_m9 160 rfl) rfl
theorem q2176 : (Jvm.Cond.static ({ cls := "TouchShelfModel", name := "spotOf", desc := "(II)I" } : Jvm.MethodName)) ∈ lw_all := lw_g (lw_at lw_m9 161 rfl) rfl
theorem q2177 : (Jvm.Cond.code ({ cls := "TouchShelfModel", name := "spotOf", desc := "(II)I" } : Jvm.MethodName) prog_19_method_92_code (2 : Nat) (Option.some Jvm.ClassFile.FieldType.int)) ∈ lw_all := lw_g (lw_at lw_m9 162 rfl) rfl
theorem q2178 : (Jvm.Cond.methodLink "TouchShelfModel" (445 : Nat) ({ cls := "TouchShelfModel", name := "unit", desc := "(I)I" } : Jvm.MethodName)) ∈ lw_all := lw_g (lw_at lw_m9 163 rfl) rfl
theorem q2179 : (Jvm.Cond.static ({ cls := "TouchShelfModel", name := "unit", desc := "(I)I" } : Jvm.MethodName)) ∈ lw_all := lw_g (lw_at lw_m9 164 rfl) rfl
theorem q2180 : (Jvm.Cond.code ({ cls := "TouchShelfModel", name := "unit", desc := "(I)I" } : Jvm.MethodName) prog_19_method_91_code (1 : Nat) (Option.some Jvm.ClassFile.FieldType.int)) ∈ lw_all := lw_g (lw_at lw_m9 165 rfl) rfl
theorem q2181 : (Jvm.Cond.methodLink "TouchShelfModel" (451 : Nat) ({ cls := "TouchShelfModel", name := "stepsOf", desc := "(II)I" } : Jvm.MethodName)) ∈ lw_all := lw_g (lw_at lw_m9 166 rfl) rfl
theorem q2182 : (Jvm.Cond.static ({ cls := "TouchShelfModel", name := "stepsOf", desc := "(II)I" } : Jvm.MethodName)) ∈ lw_all := lw_g (lw_at lw_m9 167 rfl) rfl
theorem q2183 : (Jvm.Cond.code ({ cls := "TouchShelfModel", name := "stepsOf", desc := "(II)I" } : Jvm.MethodName) prog_19_method_94_code (2 : Nat) (Option.some Jvm.ClassFile.FieldType.int)) ∈ lw_all := lw_g (lw_at lw_m9 168 rfl) rfl
theorem q2184 : (Jvm.Cond.methodLink "TouchShelfModel" (454 : Nat) ({ cls := "TouchShelfModel", name := "moved", desc := "(III)I" } : Jvm.MethodName)) ∈ lw_all := lw_g (lw_at lw_m9 169 rfl) rfl
theorem q2185 : (Jvm.Cond.static ({ cls := "TouchShelfModel", name := "moved", desc := "(III)I" } : Jvm.MethodName)) ∈ lw_all := lw_g (lw_at lw_m9 170 rfl) rfl
theorem q2186 : (Jvm.Cond.code ({ cls := "TouchShelfModel", name := "moved", desc := "(III)I" } : Jvm.MethodName) prog_19_method_93_code (3 : Nat) (Option.some Jvm.ClassFile.FieldType.int)) ∈ lw_all := lw_g (lw_at lw_m9 171 rfl) rfl
theorem q2187 : (Jvm.Cond.methodLink "TouchShelfModel" (468 : Nat) ({ cls := "TouchShelfModel", name := "greedy", desc := "()I" } : Jvm.MethodName)) ∈ lw_all := lw_g (lw_at lw_m9 172 rfl) rfl
theorem q2188 : (Jvm.Cond.privateMethod ({ cls := "TouchShelfModel", name := "greedy", desc := "()I" } : Jvm.MethodName)) ∈ lw_tbl := lw_at lw_m9 173 rfl
theorem q2189 : (Jvm.Cond.instanceMethod ({ cls := "TouchShelfModel", name := "greedy", desc := "()I" } : Jvm.MethodName)) ∈ lw_all := lw_g (lw_at lw_m9 174 rfl) rfl
theorem q2190 : (Jvm.Cond.code ({ cls := "TouchShelfModel", name := "greedy", desc := "()I" } : Jvm.MethodName) prog_19_method_97_code (5 : Nat) (Option.some Jvm.ClassFile.FieldType.int)) ∈ lw_all := lw_g (lw_at lw_m9 175 rfl) rfl
theorem q2192 : (Jvm.Cond.instanceMethod ({ cls := "TouchShelfModel", name := "drawn", desc := "(IIIII)I" } : Jvm.MethodName)) ∈ lw_all := lw_g (lw_at lw_m9 177 rfl) rfl
theorem q2193 : (Jvm.Cond.selects "TouchShelfModel" ({ cls := "TouchShelfModel", name := "drawn", desc := "(IIIII)I" } : Jvm.MethodName) ({ cls := "TouchShelfModel", name := "drawn", desc := "(IIIII)I" } : Jvm.MethodName)) ∈ lw_all := lw_g (lw_at lw_m9 178 rfl) rfl
theorem q2194 : (Jvm.Cond.code ({ cls := "TouchShelfModel", name := "drawn", desc := "(IIIII)I" } : Jvm.MethodName) prog_19_method_100_code (9 : Nat) (Option.some Jvm.ClassFile.FieldType.int)) ∈ lw_all := lw_g (lw_at lw_m9 179 rfl) rfl
theorem q2195 : (Jvm.Cond.methodLink "TouchShelfModel" (475 : Nat) ({ cls := "TouchShelfModel", name := "draw", desc := "(I)I" } : Jvm.MethodName)) ∈ lw_all := lw_g (lw_at lw_m9 180 rfl) rfl
theorem q2196 : (Jvm.Cond.privateMethod ({ cls := "TouchShelfModel", name := "draw", desc := "(I)I" } : Jvm.MethodName)) ∈ lw_tbl := lw_at lw_m9 181 rfl
theorem q2197 : (Jvm.Cond.instanceMethod ({ cls := "TouchShelfModel", name := "draw", desc := "(I)I" } : Jvm.MethodName)) ∈ lw_all := lw_g (lw_at lw_m9 182 rfl) rfl
theorem q2198 : (Jvm.Cond.code ({ cls := "TouchShelfModel", name := "draw", desc := "(I)I" } : Jvm.MethodName) prog_19_method_99_code (2 : Nat) (Option.some Jvm.ClassFile.FieldType.int)) ∈ lw_all := lw_g (lw_at lw_m9 183 rfl) rfl
theorem q2199 : (Jvm.Cond.constant "TouchShelfModel" (474 : Nat) (1103515245 : Int32)) ∈ lw_all := lw_g (lw_at lw_m9 184 rfl) rfl
theorem q2201 : (Jvm.Cond.instanceMethod ({ cls := "TouchShelfModel", name := "insert", desc := "(III)I" } : Jvm.MethodName)) ∈ lw_all := lw_g (lw_at lw_m9 186 rfl) rfl
theorem q2202 : (Jvm.Cond.selects "TouchShelfModel" ({ cls := "TouchShelfModel", name := "insert", desc := "(III)I" } : Jvm.MethodName) ({ cls := "TouchShelfModel", name := "insert", desc := "(III)I" } : Jvm.MethodName)) ∈ lw_all := lw_g (lw_at lw_m9 187 rfl) rfl
theorem q2203 : (Jvm.Cond.code ({ cls := "TouchShelfModel", name := "insert", desc := "(III)I" } : Jvm.MethodName) prog_19_method_101_code (9 : Nat) (Option.some Jvm.ClassFile.FieldType.int)) ∈ lw_all := lw_g (lw_at lw_m9 188 rfl) rfl
theorem q2205 : (Jvm.Cond.instanceMethod ({ cls := "TouchShelfModel", name := "hardest", desc := "(III)I" } : Jvm.MethodName)) ∈ lw_all := lw_g (lw_at lw_m9 190 rfl) rfl
theorem q2206 : (Jvm.Cond.selects "TouchShelfModel" ({ cls := "TouchShelfModel", name := "hardest", desc := "(III)I" } : Jvm.MethodName) ({ cls := "TouchShelfModel", name := "hardest", desc := "(III)I" } : Jvm.MethodName)) ∈ lw_all := lw_g (lw_at lw_m9 191 rfl) rfl
theorem q2207 : (Jvm.Cond.code ({ cls := "TouchShelfModel", name := "hardest", desc := "(III)I" } : Jvm.MethodName) prog_19_method_103_code (10 : Nat) (Option.some Jvm.ClassFile.FieldType.int)) ∈ lw_all := lw_g (lw_at lw_m9 192 rfl) rfl
theorem q2208 : (Jvm.Cond.methodLink "TouchShelfModel" (478 : Nat) ({ cls := "TouchShelfModel", name := "hole", desc := "(I)I" } : Jvm.MethodName)) ∈ lw_all := lw_g (lw_at lw_m9 193 rfl) rfl
theorem q2209 : (Jvm.Cond.privateMethod ({ cls := "TouchShelfModel", name := "hole", desc := "(I)I" } : Jvm.MethodName)) ∈ lw_tbl := lw_at lw_m9 194 rfl
theorem q2210 : (Jvm.Cond.instanceMethod ({ cls := "TouchShelfModel", name := "hole", desc := "(I)I" } : Jvm.MethodName)) ∈ lw_all := lw_g (lw_at lw_m9 195 rfl) rfl
theorem q2211 : (Jvm.Cond.code ({ cls := "TouchShelfModel", name := "hole", desc := "(I)I" } : Jvm.MethodName) prog_19_method_102_code (5 : Nat) (Option.some Jvm.ClassFile.FieldType.int)) ∈ lw_all := lw_g (lw_at lw_m9 196 rfl) rfl
theorem q2212 : (Jvm.Cond.methodLink "TouchShelfModel" (481 : Nat) ({ cls := "TouchShelfModel", name := "halving", desc := "(IIIZ)I" } : Jvm.MethodName)) ∈ lw_all := lw_g (lw_at lw_m9 197 rfl) rfl
theorem q2214 : (Jvm.Cond.instanceMethod ({ cls := "TouchShelfModel", name := "pairs", desc := "(II)I" } : Jvm.MethodName)) ∈ lw_all := lw_g (lw_at lw_m9 199 rfl) rfl
theorem q2215 : (Jvm.Cond.selects "TouchShelfModel" ({ cls := "TouchShelfModel", name := "pairs", desc := "(II)I" } : Jvm.MethodName) ({ cls := "TouchShelfModel", name := "pairs", desc := "(II)I" } : Jvm.MethodName)) ∈ lw_all := lw_g (lw_at lw_m9 200 rfl) rfl
theorem q2216 : (Jvm.Cond.code ({ cls := "TouchShelfModel", name := "pairs", desc := "(II)I" } : Jvm.MethodName) prog_19_method_104_code (8 : Nat) (Option.some Jvm.ClassFile.FieldType.int)) ∈ lw_all := lw_g (lw_at lw_m9 201 rfl) rfl
theorem q2218 : (Jvm.Cond.instanceMethod ({ cls := "TouchShelfModel", name := "tells", desc := "(I)I" } : Jvm.MethodName)) ∈ lw_all := lw_g (lw_at lw_m9 203 rfl) rfl
theorem q2219 : (Jvm.Cond.selects "TouchShelfModel" ({ cls := "TouchShelfModel", name := "tells", desc := "(I)I" } : Jvm.MethodName) ({ cls := "TouchShelfModel", name := "tells", desc := "(I)I" } : Jvm.MethodName)) ∈ lw_all := lw_g (lw_at lw_m9 204 rfl) rfl
theorem q2220 : (Jvm.Cond.code ({ cls := "TouchShelfModel", name := "tells", desc := "(I)I" } : Jvm.MethodName) prog_19_method_106_code (4 : Nat) (Option.some Jvm.ClassFile.FieldType.int)) ∈ lw_all := lw_g (lw_at lw_m9 205 rfl) rfl
theorem q2221 : (Jvm.Cond.methodLink "TouchShelfModel" (485 : Nat) ({ cls := "TouchShelfModel", name := "tellBy", desc := "(JI)Z" } : Jvm.MethodName)) ∈ lw_all := lw_g (lw_at lw_m9 206 rfl) rfl
theorem q2222 : (Jvm.Cond.privateMethod ({ cls := "TouchShelfModel", name := "tellBy", desc := "(JI)Z" } : Jvm.MethodName)) ∈ lw_tbl := lw_at lw_m9 207 rfl
theorem q2223 : (Jvm.Cond.instanceMethod ({ cls := "TouchShelfModel", name := "tellBy", desc := "(JI)Z" } : Jvm.MethodName)) ∈ lw_all := lw_g (lw_at lw_m9 208 rfl) rfl
theorem q2224 : (Jvm.Cond.code ({ cls := "TouchShelfModel", name := "tellBy", desc := "(JI)Z" } : Jvm.MethodName) prog_19_method_105_code (6 : Nat) (Option.some Jvm.ClassFile.FieldType.boolean)) ∈ lw_all := lw_g (lw_at lw_m9 209 rfl) rfl
theorem q2226 : (Jvm.Cond.instanceMethod ({ cls := "TouchShelfModel", name := "nearest", desc := "(III)I" } : Jvm.MethodName)) ∈ lw_all := lw_g (lw_at lw_m9 211 rfl) rfl
theorem q2227 : (Jvm.Cond.selects "TouchShelfModel" ({ cls := "TouchShelfModel", name := "nearest", desc := "(III)I" } : Jvm.MethodName) ({ cls := "TouchShelfModel", name := "nearest", desc := "(III)I" } : Jvm.MethodName)) ∈ lw_all := lw_g (lw_at lw_m9 212 rfl) rfl
theorem q2228 : (Jvm.Cond.code ({ cls := "TouchShelfModel", name := "nearest", desc := "(III)I" } : Jvm.MethodName) prog_19_method_107_code (8 : Nat) (Option.some Jvm.ClassFile.FieldType.int)) ∈ lw_all := lw_g (lw_at lw_m9 213 rfl) rfl
theorem q2230 : (Jvm.Cond.instanceMethod ({ cls := "TouchShelfModel", name := "swaps", desc := "(III)I" } : Jvm.MethodName)) ∈ lw_all := lw_g (lw_at lw_m9 215 rfl) rfl
theorem q2231 : (Jvm.Cond.selects "TouchShelfModel" ({ cls := "TouchShelfModel", name := "swaps", desc := "(III)I" } : Jvm.MethodName) ({ cls := "TouchShelfModel", name := "swaps", desc := "(III)I" } : Jvm.MethodName)) ∈ lw_all := lw_g (lw_at lw_m9 216 rfl) rfl
theorem q2232 : (Jvm.Cond.code ({ cls := "TouchShelfModel", name := "swaps", desc := "(III)I" } : Jvm.MethodName) prog_19_method_109_code (8 : Nat) (Option.some Jvm.ClassFile.FieldType.int)) ∈ lw_all := lw_g (lw_at lw_m9 217 rfl) rfl
theorem q2233 : (Jvm.Cond.methodLink "TouchShelfModel" (488 : Nat) ({ cls := "TouchShelfModel", name := "countMarks", desc := "(III)I" } : Jvm.MethodName)) ∈ lw_all := lw_g (lw_at lw_m9 218 rfl) rfl
theorem q2234 : (Jvm.Cond.privateMethod ({ cls := "TouchShelfModel", name := "countMarks", desc := "(III)I" } : Jvm.MethodName)) ∈ lw_tbl := lw_at lw_m9 219 rfl
theorem q2235 : (Jvm.Cond.instanceMethod ({ cls := "TouchShelfModel", name := "countMarks", desc := "(III)I" } : Jvm.MethodName)) ∈ lw_all := lw_g (lw_at lw_m9 220 rfl) rfl
theorem q2236 : (Jvm.Cond.code ({ cls := "TouchShelfModel", name := "countMarks", desc := "(III)I" } : Jvm.MethodName) prog_19_method_108_code (6 : Nat) (Option.some Jvm.ClassFile.FieldType.int)) ∈ lw_all := lw_g (lw_at lw_m9 221 rfl) rfl
theorem q2238 : (Jvm.Cond.instanceMethod ({ cls := "TouchShelfModel", name := "hands", desc := "(III)I" } : Jvm.MethodName)) ∈ lw_all := lw_g (lw_at lw_m9 223 rfl) rfl
theorem q2239 : (Jvm.Cond.selects "TouchShelfModel" ({ cls := "TouchShelfModel", name := "hands", desc := "(III)I" } : Jvm.MethodName) ({ cls := "TouchShelfModel", name := "hands", desc := "(III)I" } : Jvm.MethodName)) ∈ lw_all := lw_g (lw_at lw_m9 224 rfl) rfl
theorem q2240 : (Jvm.Cond.code ({ cls := "TouchShelfModel", name := "hands", desc := "(III)I" } : Jvm.MethodName) prog_19_method_110_code (4 : Nat) (Option.some Jvm.ClassFile.FieldType.int)) ∈ lw_all := lw_g (lw_at lw_m9 225 rfl) rfl
theorem q2242 : (Jvm.Cond.instanceMethod ({ cls := "TouchShelfModel", name := "count", desc := "(I)I" } : Jvm.MethodName)) ∈ lw_all := lw_g (lw_at lw_m9 227 rfl) rfl
theorem q2243 : (Jvm.Cond.selects "TouchShelfModel" ({ cls := "TouchShelfModel", name := "count", desc := "(I)I" } : Jvm.MethodName) ({ cls := "TouchShelfModel", name := "count", desc := "(I)I" } : Jvm.MethodName)) ∈ lw_all := lw_g (lw_at lw_m9 228 rfl) rfl
theorem q2244 : (Jvm.Cond.code ({ cls := "TouchShelfModel", name := "count", desc := "(I)I" } : Jvm.MethodName) prog_19_method_111_code (2 : Nat) (Option.some Jvm.ClassFile.FieldType.int)) ∈ lw_all := lw_g (lw_at lw_m9 229 rfl) rfl
theorem q2246 : (Jvm.Cond.instanceMethod ({ cls := "TouchShelfModel", name := "image", desc := "(I)Z" } : Jvm.MethodName)) ∈ lw_all := lw_g (lw_at lw_m9 231 rfl) rfl
theorem q2247 : (Jvm.Cond.selects "TouchShelfModel" ({ cls := "TouchShelfModel", name := "image", desc := "(I)Z" } : Jvm.MethodName) ({ cls := "TouchShelfModel", name := "image", desc := "(I)Z" } : Jvm.MethodName)) ∈ lw_all := lw_g (lw_at lw_m9 232 rfl) rfl
theorem q2248 : (Jvm.Cond.code ({ cls := "TouchShelfModel", name := "image", desc := "(I)Z" } : Jvm.MethodName) prog_19_method_112_code (2 : Nat) (Option.some Jvm.ClassFile.FieldType.boolean)) ∈ lw_all := lw_g (lw_at lw_m9 233 rfl) rfl
theorem q2249 : (Jvm.Cond.methodLink "TouchShelfModel" (491 : Nat) ({ cls := "TouchShelfModel", name := "copyAll", desc := "(II)V" } : Jvm.MethodName)) ∈ lw_all := lw_g (lw_at lw_m9 234 rfl) rfl
theorem q2250 : (Jvm.Cond.privateMethod ({ cls := "TouchShelfModel", name := "copyAll", desc := "(II)V" } : Jvm.MethodName)) ∈ lw_tbl := lw_at lw_m9 235 rfl
theorem q2251 : (Jvm.Cond.instanceMethod ({ cls := "TouchShelfModel", name := "copyAll", desc := "(II)V" } : Jvm.MethodName)) ∈ lw_all := lw_g (lw_at lw_m9 236 rfl) rfl
theorem q2252 : (Jvm.Cond.code ({ cls := "TouchShelfModel", name := "copyAll", desc := "(II)V" } : Jvm.MethodName) prog_19_method_8_code (4 : Nat) (Option.none : Option Jvm.ClassFile.FieldType)) ∈ lw_all := lw_g (lw_at lw_m9 237 rfl) rfl
theorem q2253 : (Jvm.Cond.methodLink "TouchShelfModel" (119 : Nat) ({ cls := "TouchShelfModel", name := "copyRow", desc := "([IIII)V" } : Jvm.MethodName)) ∈ lw_all := lw_g (lw_at lw_m9 238 rfl) rfl
theorem q2254 : (Jvm.Cond.static ({ cls := "TouchShelfModel", name := "copyRow", desc := "([IIII)V" } : Jvm.MethodName)) ∈ lw_all := lw_g (lw_at lw_m9 239 rfl) rfl
theorem q2255 : (Jvm.Cond.code ({ cls := "TouchShelfModel", name := "copyRow", desc := "([IIII)V" } : Jvm.MethodName) prog_19_method_7_code (5 : Nat) (Option.none : Option Jvm.ClassFile.FieldType)) ∈ lw_all := lw_g (lw_at lw_m10 0 rfl) rfl
theorem q2257 : (Jvm.Cond.instanceMethod ({ cls := "TouchShelfModel", name := "again", desc := "(I)Z" } : Jvm.MethodName)) ∈ lw_all := lw_g (lw_at lw_m10 2 rfl) rfl
theorem q2258 : (Jvm.Cond.selects "TouchShelfModel" ({ cls := "TouchShelfModel", name := "again", desc := "(I)Z" } : Jvm.MethodName) ({ cls := "TouchShelfModel", name := "again", desc := "(I)Z" } : Jvm.MethodName)) ∈ lw_all := lw_g (lw_at lw_m10 3 rfl) rfl
theorem q2259 : (Jvm.Cond.code ({ cls := "TouchShelfModel", name := "again", desc := "(I)Z" } : Jvm.MethodName) prog_19_method_113_code (2 : Nat) (Option.some Jvm.ClassFile.FieldType.boolean)) ∈ lw_all := lw_g (lw_at lw_m10 4 rfl) rfl
theorem q2287 : (Jvm.Cond.castable "TouchShelfModel" "java/lang/Object") ∈ lw_tbl := lw_at lw_m10 32 rfl
theorem in_X3 : ∀ w ∈ wsX30, w ∈ lw_all := lw_in wsX30 [1685, 1687, 1689, 1691, 1693, 1695, 1697, 1699, 1701, 1703, 1705, 1707, 1709, 1711, 1713, 1715, 1717, 1719, 1721, 1723, 1725, 1727, 1729, 1731, 1733, 1735, 1737, 1739, 1741, 1743, 1745, 1747, 1749, 1751, 1753, 1755, 1757, 1759, 1761, 1763, 1765, 1767, 1769, 1771, 1773, 1775, 1777, 1779, 1781, 1783, 1785, 1787, 1789, 1791, 1793, 1795, 1797, 1799, 1801, 1803, 1805, 1807] (by decide +kernel) (by decide +kernel)
theorem q103 : (Jvm.Cond.initialized "TouchShelf$Reader") ∈ lw_all := lw_g (lw_at lw_m1 8 rfl) rfl
theorem q276 : (Jvm.Cond.instanceMethod ({ cls := "TouchShelf$Reader", name := "<init>", desc := "([BI)V" } : Jvm.MethodName)) ∈ lw_all := lw_g (lw_at lw_m1 181 rfl) rfl
theorem q277 : (Jvm.Cond.code ({ cls := "TouchShelf$Reader", name := "<init>", desc := "([BI)V" } : Jvm.MethodName) prog_10_method_1_code (3 : Nat) (Option.none : Option Jvm.ClassFile.FieldType)) ∈ lw_all := lw_g (lw_at lw_m1 182 rfl) rfl
theorem q278 : (Jvm.Cond.methodLink "TouchShelf$Reader" (3 : Nat) ({ cls := "java/lang/Object", name := "<init>", desc := "()V" } : Jvm.MethodName)) ∈ lw_all := lw_g (lw_at lw_m1 183 rfl) rfl
theorem q279 : (Jvm.Cond.methodLink "TouchShelf$Reader" (19 : Nat) ({ cls := "TouchShelf$Reader", name := "step", desc := "()V" } : Jvm.MethodName)) ∈ lw_all := lw_g (lw_at lw_m1 184 rfl) rfl
theorem q280 : (Jvm.Cond.instanceMethod ({ cls := "TouchShelf$Reader", name := "step", desc := "()V" } : Jvm.MethodName)) ∈ lw_all := lw_g (lw_at lw_m1 185 rfl) rfl
theorem q281 : (Jvm.Cond.sameMethod "TouchShelf$Reader" "TouchShelf$Reader" "step" "()V") ∈ lw_all := lw_g (lw_at lw_m1 186 rfl) rfl
theorem q285 : (Jvm.Cond.code ({ cls := "TouchShelf$Reader", name := "step", desc := "()V" } : Jvm.MethodName) prog_10_method_5_code (3 : Nat) (Option.none : Option Jvm.ClassFile.FieldType)) ∈ lw_all := lw_g (lw_at lw_m1 190 rfl) rfl
theorem q286 : (Jvm.Cond.methodLink "TouchShelf$Reader" (25 : Nat) ({ cls := "TouchShelf$Reader", name := "at", desc := "(I)I" } : Jvm.MethodName)) ∈ lw_all := lw_g (lw_at lw_m1 191 rfl) rfl
theorem q287 : (Jvm.Cond.privateMethod ({ cls := "TouchShelf$Reader", name := "at", desc := "(I)I" } : Jvm.MethodName)) ∈ lw_tbl := lw_at lw_m1 192 rfl
theorem q288 : (Jvm.Cond.instanceMethod ({ cls := "TouchShelf$Reader", name := "at", desc := "(I)I" } : Jvm.MethodName)) ∈ lw_all := lw_g (lw_at lw_m1 193 rfl) rfl
theorem q289 : (Jvm.Cond.code ({ cls := "TouchShelf$Reader", name := "at", desc := "(I)I" } : Jvm.MethodName) prog_10_method_2_code (2 : Nat) (Option.some Jvm.ClassFile.FieldType.int)) ∈ lw_all := lw_g (lw_at lw_m1 194 rfl) rfl
theorem q290 : (Jvm.Cond.fieldLink "TouchShelf$Reader" (32 : Nat) "TouchShelf$Token" "END" "LTouchShelf$Token;") ∈ lw_all := lw_g (lw_at lw_m1 195 rfl) rfl
theorem q292 : (Jvm.Cond.methodLink "TouchShelf$Reader" (41 : Nat) ({ cls := "TouchShelf$Reader", name := "isLetter", desc := "(I)Z" } : Jvm.MethodName)) ∈ lw_all := lw_g (lw_at lw_m1 197 rfl) rfl
theorem q293 : (Jvm.Cond.static ({ cls := "TouchShelf$Reader", name := "isLetter", desc := "(I)Z" } : Jvm.MethodName)) ∈ lw_all := lw_g (lw_at lw_m1 198 rfl) rfl
theorem q294 : (Jvm.Cond.code ({ cls := "TouchShelf$Reader", name := "isLetter", desc := "(I)Z" } : Jvm.MethodName) prog_10_method_3_code (1 : Nat) (Option.some Jvm.ClassFile.FieldType.boolean)) ∈ lw_all := lw_g (lw_at lw_m1 199 rfl) rfl
theorem q295 : (Jvm.Cond.classLink "TouchShelf$Reader" (45 : Nat) "java/lang/StringBuilder") ∈ lw_all := lw_g (lw_at lw_m1 200 rfl) rfl
theorem q297 : (Jvm.Cond.methodLink "TouchShelf$Reader" (47 : Nat) ({ cls := "java/lang/StringBuilder", name := "<init>", desc := "(I)V" } : Jvm.MethodName)) ∈ lw_all := lw_g (lw_at lw_m1 202 rfl) rfl
theorem q326 : (Jvm.Cond.methodLink "TouchShelf$Reader" (50 : Nat) ({ cls := "java/lang/StringBuilder", name := "length", desc := "()I" } : Jvm.MethodName)) ∈ lw_all := lw_g (lw_at lw_m1 231 rfl) rfl
theorem q333 : (Jvm.Cond.methodLink "TouchShelf$Reader" (54 : Nat) ({ cls := "java/lang/StringBuilder", name := "append", desc := "(C)Ljava/lang/StringBuilder;" } : Jvm.MethodName)) ∈ lw_all := lw_g (lw_at lw_m1 238 rfl) rfl
theorem q428 : (Jvm.Cond.methodLink "TouchShelf$Reader" (58 : Nat) ({ cls := "java/lang/StringBuilder", name := "toString", desc := "()Ljava/lang/String;" } : Jvm.MethodName)) ∈ lw_all := lw_g (lw_at lw_m2 93 rfl) rfl
theorem q482 : (Jvm.Cond.fieldLink "TouchShelf$Reader" (66 : Nat) "TouchShelf$Token" "WORD" "LTouchShelf$Token;") ∈ lw_all := lw_g (lw_at lw_m2 147 rfl) rfl
theorem q484 : (Jvm.Cond.methodLink "TouchShelf$Reader" (69 : Nat) ({ cls := "TouchShelf$Reader", name := "isDigit", desc := "(I)Z" } : Jvm.MethodName)) ∈ lw_all := lw_g (lw_at lw_m2 149 rfl) rfl
theorem q485 : (Jvm.Cond.static ({ cls := "TouchShelf$Reader", name := "isDigit", desc := "(I)Z" } : Jvm.MethodName)) ∈ lw_all := lw_g (lw_at lw_m2 150 rfl) rfl
theorem q486 : (Jvm.Cond.code ({ cls := "TouchShelf$Reader", name := "isDigit", desc := "(I)Z" } : Jvm.MethodName) prog_10_method_4_code (1 : Nat) (Option.some Jvm.ClassFile.FieldType.boolean)) ∈ lw_all := lw_g (lw_at lw_m2 151 rfl) rfl
theorem q487 : (Jvm.Cond.fieldLink "TouchShelf$Reader" (75 : Nat) "TouchShelf$Token" "BAD" "LTouchShelf$Token;") ∈ lw_all := lw_g (lw_at lw_m2 152 rfl) rfl
theorem q489 : (Jvm.Cond.fieldLink "TouchShelf$Reader" (78 : Nat) "TouchShelf$Token" "NUMBER" "LTouchShelf$Token;") ∈ lw_all := lw_g (lw_at lw_m2 154 rfl) rfl
theorem q491 : (Jvm.Cond.fieldLink "TouchShelf$Reader" (81 : Nat) "TouchShelf$Token" "SIGN" "LTouchShelf$Token;") ∈ lw_all := lw_g (lw_at lw_m2 156 rfl) rfl
theorem q493 : (Jvm.Cond.fieldLink "TouchShelf$Reader" (84 : Nat) "TouchShelf$Token" "MINUS" "LTouchShelf$Token;") ∈ lw_all := lw_g (lw_at lw_m2 158 rfl) rfl
theorem q526 : (Jvm.Cond.fieldLink "TouchShelf$Reader" (9 : Nat) "TouchShelf$Reader" "tape" "[B") ∈ lw_all := lw_g (lw_at lw_m2 191 rfl) rfl
theorem q527 : (Jvm.Cond.fieldLink "TouchShelf$Reader" (15 : Nat) "TouchShelf$Reader" "size" "I") ∈ lw_all := lw_g (lw_at lw_m2 192 rfl) rfl
theorem q528 : (Jvm.Cond.fieldLink "TouchShelf$Reader" (22 : Nat) "TouchShelf$Reader" "next" "I") ∈ lw_all := lw_g (lw_at lw_m2 193 rfl) rfl
theorem q529 : (Jvm.Cond.fieldLink "TouchShelf$Reader" (29 : Nat) "TouchShelf$Reader" "place" "I") ∈ lw_all := lw_g (lw_at lw_m2 194 rfl) rfl
theorem q530 : (Jvm.Cond.fieldLink "TouchShelf$Reader" (72 : Nat) "TouchShelf$Reader" "value" "I") ∈ lw_all := lw_g (lw_at lw_m2 195 rfl) rfl
theorem q531 : (Jvm.Cond.fieldLink "TouchShelf$Reader" (38 : Nat) "TouchShelf$Reader" "token" "LTouchShelf$Token;") ∈ lw_all := lw_g (lw_at lw_m2 196 rfl) rfl
theorem q532 : (Jvm.Cond.fieldLink "TouchShelf$Reader" (62 : Nat) "TouchShelf$Reader" "text" "Ljava/lang/String;") ∈ lw_all := lw_g (lw_at lw_m2 197 rfl) rfl
theorem q533 : (Jvm.Cond.fieldLink "TouchShelf$Reader" (102 : Nat) "TouchShelf$Reader" "also" "LTouchShelf$Fault;") ∈ lw_all := lw_g (lw_at lw_m2 198 rfl) rfl
theorem q537 : (Jvm.Cond.soleField "TouchShelf$Reader" "tape") ∈ lw_all := lw_g (lw_at lw_m2 202 rfl) rfl
theorem q539 : (Jvm.Cond.soleField "TouchShelf$Reader" "size") ∈ lw_all := lw_g (lw_at lw_m2 204 rfl) rfl
theorem q541 : (Jvm.Cond.soleField "TouchShelf$Reader" "next") ∈ lw_all := lw_g (lw_at lw_m2 206 rfl) rfl
theorem q543 : (Jvm.Cond.soleField "TouchShelf$Reader" "place") ∈ lw_all := lw_g (lw_at lw_m2 208 rfl) rfl
theorem q545 : (Jvm.Cond.soleField "TouchShelf$Reader" "value") ∈ lw_all := lw_g (lw_at lw_m2 210 rfl) rfl
theorem q547 : (Jvm.Cond.soleField "TouchShelf$Reader" "token") ∈ lw_all := lw_g (lw_at lw_m2 212 rfl) rfl
theorem q549 : (Jvm.Cond.soleField "TouchShelf$Reader" "text") ∈ lw_all := lw_g (lw_at lw_m2 214 rfl) rfl
theorem q551 : (Jvm.Cond.soleField "TouchShelf$Reader" "also") ∈ lw_all := lw_g (lw_at lw_m2 216 rfl) rfl
theorem q559 : (Jvm.Cond.declares ({ cls := "TouchShelf$Reader", name := "lines", desc := "()V" } : Jvm.MethodName)) ∈ lw_tbl := lw_at lw_m2 224 rfl
theorem q561 : (Jvm.Cond.instanceMethod ({ cls := "TouchShelf$Reader", name := "lines", desc := "()V" } : Jvm.MethodName)) ∈ lw_all := lw_g (lw_at lw_m2 226 rfl) rfl
theorem q562 : (Jvm.Cond.code ({ cls := "TouchShelf$Reader", name := "lines", desc := "()V" } : Jvm.MethodName) prog_10_method_18_code (1 : Nat) (Option.none : Option Jvm.ClassFile.FieldType)) ∈ lw_all := lw_g (lw_at lw_m2 227 rfl) rfl
theorem q563 : (Jvm.Cond.methodLink "TouchShelf$Reader" (124 : Nat) ({ cls := "TouchShelf$Reader", name := "line", desc := "()V" } : Jvm.MethodName)) ∈ lw_all := lw_g (lw_at lw_m2 228 rfl) rfl
theorem q564 : (Jvm.Cond.declares ({ cls := "TouchShelf$Reader", name := "line", desc := "()V" } : Jvm.MethodName)) ∈ lw_tbl := lw_at lw_m2 229 rfl
theorem q565 : (Jvm.Cond.sameMethod "TouchShelf$Reader" "TouchShelf$Reader" "line" "()V") ∈ lw_all := lw_g (lw_at lw_m2 230 rfl) rfl
theorem q571 : (Jvm.Cond.declares ({ cls := "TouchShelf$Reader", name := "here", desc := "()I" } : Jvm.MethodName)) ∈ lw_tbl := lw_at lw_m2 236 rfl
theorem q573 : (Jvm.Cond.instanceMethod ({ cls := "TouchShelf$Reader", name := "here", desc := "()I" } : Jvm.MethodName)) ∈ lw_all := lw_g (lw_at lw_m2 238 rfl) rfl
theorem q574 : (Jvm.Cond.code ({ cls := "TouchShelf$Reader", name := "here", desc := "()I" } : Jvm.MethodName) prog_10_method_6_code (1 : Nat) (Option.some Jvm.ClassFile.FieldType.int)) ∈ lw_all := lw_g (lw_at lw_m2 239 rfl) rfl
theorem q579 : (Jvm.Cond.declares ({ cls := "TouchShelf$Reader", name := "word", desc := "([Ljava/lang/String;)I" } : Jvm.MethodName)) ∈ lw_tbl := lw_at lw_m3 4 rfl
theorem q581 : (Jvm.Cond.instanceMethod ({ cls := "TouchShelf$Reader", name := "word", desc := "([Ljava/lang/String;)I" } : Jvm.MethodName)) ∈ lw_all := lw_g (lw_at lw_m3 6 rfl) rfl
theorem q582 : (Jvm.Cond.code ({ cls := "TouchShelf$Reader", name := "word", desc := "([Ljava/lang/String;)I" } : Jvm.MethodName) prog_10_method_10_code (3 : Nat) (Option.some Jvm.ClassFile.FieldType.int)) ∈ lw_all := lw_g (lw_at lw_m3 7 rfl) rfl
theorem q583 : (Jvm.Cond.methodLink "TouchShelf$Reader" (98 : Nat) ({ cls := "TouchShelf$Reader", name := "takes", desc := "(Ljava/lang/String;)Z" } : Jvm.MethodName)) ∈ lw_all := lw_g (lw_at lw_m3 8 rfl) rfl
theorem q584 : (Jvm.Cond.instanceMethod ({ cls := "TouchShelf$Reader", name := "takes", desc := "(Ljava/lang/String;)Z" } : Jvm.MethodName)) ∈ lw_all := lw_g (lw_at lw_m3 9 rfl) rfl
theorem q585 : (Jvm.Cond.sameMethod "TouchShelf$Reader" "TouchShelf$Reader" "takes" "(Ljava/lang/String;)Z") ∈ lw_all := lw_g (lw_at lw_m3 10 rfl) rfl
theorem q589 : (Jvm.Cond.code ({ cls := "TouchShelf$Reader", name := "takes", desc := "(Ljava/lang/String;)Z" } : Jvm.MethodName) prog_10_method_9_code (2 : Nat) (Option.some Jvm.ClassFile.FieldType.boolean)) ∈ lw_all := lw_g (lw_at lw_m3 14 rfl) rfl
theorem q590 : (Jvm.Cond.methodLink "TouchShelf$Reader" (92 : Nat) ({ cls := "java/lang/String", name := "equals", desc := "(Ljava/lang/Object;)Z" } : Jvm.MethodName)) ∈ lw_all := lw_g (lw_at lw_m3 15 rfl) rfl
theorem q600 : (Jvm.Cond.declares ({ cls := "TouchShelf$Reader", name := "wrong", desc := "()LTouchShelf$Fault;" } : Jvm.MethodName)) ∈ lw_tbl := lw_at lw_m3 25 rfl
theorem q602 : (Jvm.Cond.instanceMethod ({ cls := "TouchShelf$Reader", name := "wrong", desc := "()LTouchShelf$Fault;" } : Jvm.MethodName)) ∈ lw_all := lw_g (lw_at lw_m3 27 rfl) rfl
theorem q603 : (Jvm.Cond.code ({ cls := "TouchShelf$Reader", name := "wrong", desc := "()LTouchShelf$Fault;" } : Jvm.MethodName) prog_10_method_8_code (1 : Nat) (Option.some (Jvm.ClassFile.FieldType.object "TouchShelf$Fault"))) ∈ lw_all := lw_g (lw_at lw_m3 28 rfl) rfl
theorem q604 : (Jvm.Cond.classLink "TouchShelf$Reader" (87 : Nat) "TouchShelf$Fault") ∈ lw_all := lw_g (lw_at lw_m3 29 rfl) rfl
theorem q641 : (Jvm.Cond.methodLink "TouchShelf$Reader" (89 : Nat) ({ cls := "TouchShelf$Fault", name := "<init>", desc := "(II)V" } : Jvm.MethodName)) ∈ lw_all := lw_g (lw_at lw_m3 66 rfl) rfl
theorem q649 : (Jvm.Cond.fieldLinkNest "TouchShelf$Reader" (107 : Nat) "TouchShelf$Fault" "kind" "I" "TouchShelf") ∈ lw_tbl := lw_at lw_m3 74 rfl
theorem q652 : (Jvm.Cond.fieldLinkNest "TouchShelf$Reader" (106 : Nat) "TouchShelf$Fault" "place" "I" "TouchShelf") ∈ lw_tbl := lw_at lw_m3 77 rfl
theorem q673 : (Jvm.Cond.declares ({ cls := "TouchShelf$Reader", name := "also", desc := "(II)V" } : Jvm.MethodName)) ∈ lw_tbl := lw_at lw_m3 98 rfl
theorem q675 : (Jvm.Cond.instanceMethod ({ cls := "TouchShelf$Reader", name := "also", desc := "(II)V" } : Jvm.MethodName)) ∈ lw_all := lw_g (lw_at lw_m3 100 rfl) rfl
theorem q676 : (Jvm.Cond.code ({ cls := "TouchShelf$Reader", name := "also", desc := "(II)V" } : Jvm.MethodName) prog_10_method_11_code (3 : Nat) (Option.none : Option Jvm.ClassFile.FieldType)) ∈ lw_all := lw_g (lw_at lw_m3 101 rfl) rfl
theorem q681 : (Jvm.Cond.declares ({ cls := "TouchShelf$Reader", name := "number", desc := "(II)I" } : Jvm.MethodName)) ∈ lw_tbl := lw_at lw_m3 106 rfl
theorem q683 : (Jvm.Cond.instanceMethod ({ cls := "TouchShelf$Reader", name := "number", desc := "(II)I" } : Jvm.MethodName)) ∈ lw_all := lw_g (lw_at lw_m3 108 rfl) rfl
theorem q684 : (Jvm.Cond.code ({ cls := "TouchShelf$Reader", name := "number", desc := "(II)I" } : Jvm.MethodName) prog_10_method_12_code (5 : Nat) (Option.some Jvm.ClassFile.FieldType.int)) ∈ lw_all := lw_g (lw_at lw_m3 109 rfl) rfl
theorem q685 : (Jvm.Cond.methodLink "TouchShelf$Reader" (110 : Nat) ({ cls := "TouchShelf$Reader", name := "wrong", desc := "()LTouchShelf$Fault;" } : Jvm.MethodName)) ∈ lw_all := lw_g (lw_at lw_m3 110 rfl) rfl
theorem q686 : (Jvm.Cond.methodLinkNest "TouchShelf$Reader" (114 : Nat) ({ cls := "TouchShelf", name := "isIn", desc := "(III)Z" } : Jvm.MethodName) "TouchShelf") ∈ lw_tbl := lw_at lw_m3 111 rfl
theorem q687 : (Jvm.Cond.methodLink "TouchShelf$Reader" (118 : Nat) ({ cls := "TouchShelf$Reader", name := "also", desc := "(II)V" } : Jvm.MethodName)) ∈ lw_all := lw_g (lw_at lw_m3 112 rfl) rfl
theorem q694 : (Jvm.Cond.declares ({ cls := "TouchShelf$Reader", name := "other", desc := "(II)I" } : Jvm.MethodName)) ∈ lw_tbl := lw_at lw_m3 119 rfl
theorem q696 : (Jvm.Cond.instanceMethod ({ cls := "TouchShelf$Reader", name := "other", desc := "(II)I" } : Jvm.MethodName)) ∈ lw_all := lw_g (lw_at lw_m3 121 rfl) rfl
theorem q697 : (Jvm.Cond.code ({ cls := "TouchShelf$Reader", name := "other", desc := "(II)I" } : Jvm.MethodName) prog_10_method_13_code (3 : Nat) (Option.some Jvm.ClassFile.FieldType.int)) ∈ lw_all := lw_g (lw_at lw_m3 122 rfl) rfl
theorem q698 : (Jvm.Cond.methodLink "TouchShelf$Reader" (120 : Nat) ({ cls := "TouchShelf$Reader", name := "number", desc := "(II)I" } : Jvm.MethodName)) ∈ lw_all := lw_g (lw_at lw_m3 123 rfl) rfl
theorem q784 : (Jvm.Cond.declares ({ cls := "TouchShelf$Reader", name := "takes", desc := "(Ljava/lang/String;)Z" } : Jvm.MethodName)) ∈ lw_tbl := lw_at lw_m3 209 rfl
theorem q802 : (Jvm.Cond.declares ({ cls := "TouchShelf$Reader", name := "mark", desc := "()I" } : Jvm.MethodName)) ∈ lw_tbl := lw_at lw_m3 227 rfl
theorem q804 : (Jvm.Cond.instanceMethod ({ cls := "TouchShelf$Reader", name := "mark", desc := "()I" } : Jvm.MethodName)) ∈ lw_all := lw_g (lw_at lw_m3 229 rfl) rfl
theorem q805 : (Jvm.Cond.code ({ cls := "TouchShelf$Reader", name := "mark", desc := "()I" } : Jvm.MethodName) prog_10_method_14_code (1 : Nat) (Option.some Jvm.ClassFile.FieldType.int)) ∈ lw_all := lw_g (lw_at lw_m3 230 rfl) rfl
theorem q808 : (Jvm.Cond.declares ({ cls := "TouchShelf$Reader", name := "isMark", desc := "()Z" } : Jvm.MethodName)) ∈ lw_tbl := lw_at lw_m3 233 rfl
theorem q810 : (Jvm.Cond.instanceMethod ({ cls := "TouchShelf$Reader", name := "isMark", desc := "()Z" } : Jvm.MethodName)) ∈ lw_all := lw_g (lw_at lw_m3 235 rfl) rfl
theorem q811 : (Jvm.Cond.code ({ cls := "TouchShelf$Reader", name := "isMark", desc := "()Z" } : Jvm.MethodName) prog_10_method_7_code (1 : Nat) (Option.some Jvm.ClassFile.FieldType.boolean)) ∈ lw_all := lw_g (lw_at lw_m3 236 rfl) rfl
theorem q908 : (Jvm.Cond.methodLink "TouchShelf$Reader" (127 : Nat) ({ cls := "TouchShelf$Reader", name := "ends", desc := "()V" } : Jvm.MethodName)) ∈ lw_all := lw_g (lw_at lw_m4 93 rfl) rfl
theorem q909 : (Jvm.Cond.instanceMethod ({ cls := "TouchShelf$Reader", name := "ends", desc := "()V" } : Jvm.MethodName)) ∈ lw_all := lw_g (lw_at lw_m4 94 rfl) rfl
theorem q910 : (Jvm.Cond.sameMethod "TouchShelf$Reader" "TouchShelf$Reader" "ends" "()V") ∈ lw_all := lw_g (lw_at lw_m4 95 rfl) rfl
theorem q914 : (Jvm.Cond.code ({ cls := "TouchShelf$Reader", name := "ends", desc := "()V" } : Jvm.MethodName) prog_10_method_15_code (1 : Nat) (Option.none : Option Jvm.ClassFile.FieldType)) ∈ lw_all := lw_g (lw_at lw_m4 99 rfl) rfl
theorem q915 : (Jvm.Cond.methodLink "TouchShelf$Reader" (130 : Nat) ({ cls := "TouchShelf$Reader", name := "isWhole", desc := "()Z" } : Jvm.MethodName)) ∈ lw_all := lw_g (lw_at lw_m4 100 rfl) rfl
theorem q916 : (Jvm.Cond.declares ({ cls := "TouchShelf$Reader", name := "isWhole", desc := "()Z" } : Jvm.MethodName)) ∈ lw_tbl := lw_at lw_m4 101 rfl
theorem q917 : (Jvm.Cond.sameMethod "TouchShelf$Reader" "TouchShelf$Reader" "isWhole" "()Z") ∈ lw_all := lw_g (lw_at lw_m4 102 rfl) rfl
theorem q2260 : (Jvm.Cond.sameMethod "TouchShelf$Reader" "TouchShelf$Reader" "at" "(I)I") ∈ lw_all := lw_g (lw_at lw_m10 5 rfl) rfl
theorem q2268 : (Jvm.Cond.sameMethod "TouchShelf$Reader" "TouchShelf$Reader" "wrong" "()LTouchShelf$Fault;") ∈ lw_all := lw_g (lw_at lw_m10 13 rfl) rfl
theorem q2272 : (Jvm.Cond.sameMethod "TouchShelf$Reader" "TouchShelf$Reader" "also" "(II)V") ∈ lw_all := lw_g (lw_at lw_m10 17 rfl) rfl
theorem q2276 : (Jvm.Cond.sameMethod "TouchShelf$Reader" "TouchShelf$Reader" "number" "(II)I") ∈ lw_all := lw_g (lw_at lw_m10 21 rfl) rfl
theorem q104 : (Jvm.Cond.initialized "TouchShelf$LibraryReader") ∈ lw_all := lw_g (lw_at lw_m1 9 rfl) rfl
theorem q271 : (Jvm.Cond.instantiable "TouchShelf$LibraryReader" (9 : Nat)) ∈ lw_all := lw_g (lw_at lw_m1 176 rfl) rfl
theorem q273 : (Jvm.Cond.instanceMethod ({ cls := "TouchShelf$LibraryReader", name := "<init>", desc := "([BI)V" } : Jvm.MethodName)) ∈ lw_all := lw_g (lw_at lw_m1 178 rfl) rfl
theorem q274 : (Jvm.Cond.code ({ cls := "TouchShelf$LibraryReader", name := "<init>", desc := "([BI)V" } : Jvm.MethodName) prog_9_method_1_code (3 : Nat) (Option.none : Option Jvm.ClassFile.FieldType)) ∈ lw_all := lw_g (lw_at lw_m1 179 rfl) rfl
theorem q275 : (Jvm.Cond.methodLink "TouchShelf$LibraryReader" (3 : Nat) ({ cls := "TouchShelf$Reader", name := "<init>", desc := "([BI)V" } : Jvm.MethodName)) ∈ lw_all := lw_g (lw_at lw_m1 180 rfl) rfl
theorem q283 : (Jvm.Cond.selects "TouchShelf$LibraryReader" ({ cls := "TouchShelf$Reader", name := "step", desc := "()V" } : Jvm.MethodName) ({ cls := "TouchShelf$Reader", name := "step", desc := "()V" } : Jvm.MethodName)) ∈ lw_all := lw_g (lw_at lw_m1 188 rfl) rfl
theorem q495 : (Jvm.Cond.classLink "TouchShelf$LibraryReader" (9 : Nat) "TouchShelf$Library") ∈ lw_all := lw_g (lw_at lw_m2 160 rfl) rfl
theorem q497 : (Jvm.Cond.methodLinkNest "TouchShelf$LibraryReader" (11 : Nat) ({ cls := "TouchShelf$Library", name := "<init>", desc := "()V" } : Jvm.MethodName) "TouchShelf") ∈ lw_tbl := lw_at lw_m2 162 rfl
theorem q504 : (Jvm.Cond.fieldLinkNest "TouchShelf$LibraryReader" (23 : Nat) "TouchShelf$Library" "bits" "I" "TouchShelf") ∈ lw_tbl := lw_at lw_m2 169 rfl
theorem q507 : (Jvm.Cond.fieldLinkNest "TouchShelf$LibraryReader" (46 : Nat) "TouchShelf$Library" "wear" "I" "TouchShelf") ∈ lw_tbl := lw_at lw_m2 172 rfl
theorem q510 : (Jvm.Cond.fieldLinkNest "TouchShelf$LibraryReader" (50 : Nat) "TouchShelf$Library" "rate" "I" "TouchShelf") ∈ lw_tbl := lw_at lw_m2 175 rfl
theorem q514 : (Jvm.Cond.fieldLinkNest "TouchShelf$LibraryReader" (65 : Nat) "TouchShelf$Library" "shelves" "Ljava/util/ArrayList;" "TouchShelf") ∈ lw_tbl := lw_at lw_m2 179 rfl
theorem q525 : (Jvm.Cond.fieldLink "TouchShelf$LibraryReader" (14 : Nat) "TouchShelf$LibraryReader" "library" "LTouchShelf$Library;") ∈ lw_all := lw_g (lw_at lw_m2 190 rfl) rfl
theorem q534 : (Jvm.Cond.laysFinal "TouchShelf$LibraryReader" "TouchShelf$LibraryReader" "library" "LTouchShelf$Library;") ∈ lw_all := lw_g (lw_at lw_m2 199 rfl) rfl
theorem q535 : (Jvm.Cond.soleField "TouchShelf$LibraryReader" "library") ∈ lw_all := lw_g (lw_at lw_m2 200 rfl) rfl
theorem q536 : (Jvm.Cond.laysFinal "TouchShelf$LibraryReader" "TouchShelf$Reader" "tape" "[B") ∈ lw_all := lw_g (lw_at lw_m2 201 rfl) rfl
theorem q538 : (Jvm.Cond.laysFinal "TouchShelf$LibraryReader" "TouchShelf$Reader" "size" "I") ∈ lw_all := lw_g (lw_at lw_m2 203 rfl) rfl
theorem q540 : (Jvm.Cond.lays "TouchShelf$LibraryReader" "TouchShelf$Reader" "next" "I") ∈ lw_all := lw_g (lw_at lw_m2 205 rfl) rfl
theorem q542 : (Jvm.Cond.lays "TouchShelf$LibraryReader" "TouchShelf$Reader" "place" "I") ∈ lw_all := lw_g (lw_at lw_m2 207 rfl) rfl
theorem q544 : (Jvm.Cond.lays "TouchShelf$LibraryReader" "TouchShelf$Reader" "value" "I") ∈ lw_all := lw_g (lw_at lw_m2 209 rfl) rfl
theorem q546 : (Jvm.Cond.lays "TouchShelf$LibraryReader" "TouchShelf$Reader" "token" "LTouchShelf$Token;") ∈ lw_all := lw_g (lw_at lw_m2 211 rfl) rfl
theorem q548 : (Jvm.Cond.lays "TouchShelf$LibraryReader" "TouchShelf$Reader" "text" "Ljava/lang/String;") ∈ lw_all := lw_g (lw_at lw_m2 213 rfl) rfl
theorem q550 : (Jvm.Cond.lays "TouchShelf$LibraryReader" "TouchShelf$Reader" "also" "LTouchShelf$Fault;") ∈ lw_all := lw_g (lw_at lw_m2 215 rfl) rfl
theorem q552 : (Jvm.Cond.superclass "TouchShelf$LibraryReader" "TouchShelf$Reader") ∈ lw_all := lw_g (lw_at lw_m2 217 rfl) rfl
theorem q554 : (Jvm.Cond.instanceMethod ({ cls := "TouchShelf$LibraryReader", name := "read", desc := "()LTouchShelf$Library;" } : Jvm.MethodName)) ∈ lw_all := lw_g (lw_at lw_m2 219 rfl) rfl
theorem q555 : (Jvm.Cond.selects "TouchShelf$LibraryReader" ({ cls := "TouchShelf$LibraryReader", name := "read", desc := "()LTouchShelf$Library;" } : Jvm.MethodName) ({ cls := "TouchShelf$LibraryReader", name := "read", desc := "()LTouchShelf$Library;" } : Jvm.MethodName)) ∈ lw_all := lw_g (lw_at lw_m2 220 rfl) rfl
theorem q556 : (Jvm.Cond.code ({ cls := "TouchShelf$LibraryReader", name := "read", desc := "()LTouchShelf$Library;" } : Jvm.MethodName) prog_9_method_2_code (1 : Nat) (Option.some (Jvm.ClassFile.FieldType.object "TouchShelf$Library"))) ∈ lw_all := lw_g (lw_at lw_m2 221 rfl) rfl
theorem q557 : (Jvm.Cond.methodLink "TouchShelf$LibraryReader" (20 : Nat) ({ cls := "TouchShelf$LibraryReader", name := "lines", desc := "()V" } : Jvm.MethodName)) ∈ lw_all := lw_g (lw_at lw_m2 222 rfl) rfl
theorem q558 : (Jvm.Cond.sameMethod "TouchShelf$LibraryReader" "TouchShelf$Reader" "lines" "()V") ∈ lw_all := lw_g (lw_at lw_m2 223 rfl) rfl
theorem q560 : (Jvm.Cond.selects "TouchShelf$LibraryReader" ({ cls := "TouchShelf$LibraryReader", name := "lines", desc := "()V" } : Jvm.MethodName) ({ cls := "TouchShelf$Reader", name := "lines", desc := "()V" } : Jvm.MethodName)) ∈ lw_all := lw_g (lw_at lw_m2 225 rfl) rfl
theorem q587 : (Jvm.Cond.selects "TouchShelf$LibraryReader" ({ cls := "TouchShelf$Reader", name := "takes", desc := "(Ljava/lang/String;)Z" } : Jvm.MethodName) ({ cls := "TouchShelf$Reader", name := "takes", desc := "(Ljava/lang/String;)Z" } : Jvm.MethodName)) ∈ lw_all := lw_g (lw_at lw_m3 12 rfl) rfl
theorem q755 : (Jvm.Cond.selects "TouchShelf$LibraryReader" ({ cls := "java/lang/Object", name := "getClass", desc := "()Ljava/lang/Class;" } : Jvm.MethodName) ({ cls := "java/lang/Object", name := "getClass", desc := "()Ljava/lang/Class;" } : Jvm.MethodName)) ∈ lw_all := lw_g (lw_at lw_m3 180 rfl) rfl
theorem q775 : (Jvm.Cond.selects "TouchShelf$LibraryReader" ({ cls := "TouchShelf$Reader", name := "line", desc := "()V" } : Jvm.MethodName) ({ cls := "TouchShelf$LibraryReader", name := "line", desc := "()V" } : Jvm.MethodName)) ∈ lw_all := lw_g (lw_at lw_m3 200 rfl) rfl
theorem q776 : (Jvm.Cond.instanceMethod ({ cls := "TouchShelf$LibraryReader", name := "line", desc := "()V" } : Jvm.MethodName)) ∈ lw_all := lw_g (lw_at lw_m3 201 rfl) rfl
theorem q777 : (Jvm.Cond.code ({ cls := "TouchShelf$LibraryReader", name := "line", desc := "()V" } : Jvm.MethodName) prog_9_method_4_code (2 : Nat) (Option.none : Option Jvm.ClassFile.FieldType)) ∈ lw_all := lw_g (lw_at lw_m3 202 rfl) rfl
theorem q778 : (Jvm.Cond.methodLink "TouchShelf$LibraryReader" (34 : Nat) ({ cls := "TouchShelf$LibraryReader", name := "here", desc := "()I" } : Jvm.MethodName)) ∈ lw_all := lw_g (lw_at lw_m3 203 rfl) rfl
theorem q779 : (Jvm.Cond.sameMethod "TouchShelf$LibraryReader" "TouchShelf$Reader" "here" "()I") ∈ lw_all := lw_g (lw_at lw_m3 204 rfl) rfl
theorem q780 : (Jvm.Cond.selects "TouchShelf$LibraryReader" ({ cls := "TouchShelf$LibraryReader", name := "here", desc := "()I" } : Jvm.MethodName) ({ cls := "TouchShelf$Reader", name := "here", desc := "()I" } : Jvm.MethodName)) ∈ lw_all := lw_g (lw_at lw_m3 205 rfl) rfl
theorem q781 : (Jvm.Cond.stringRef "TouchShelf$LibraryReader" (35 : Nat) "bits") ∈ lw_tbl := lw_at lw_m3 206 rfl
theorem q782 : (Jvm.Cond.methodLink "TouchShelf$LibraryReader" (36 : Nat) ({ cls := "TouchShelf$LibraryReader", name := "takes", desc := "(Ljava/lang/String;)Z" } : Jvm.MethodName)) ∈ lw_all := lw_g (lw_at lw_m3 207 rfl) rfl
theorem q783 : (Jvm.Cond.sameMethod "TouchShelf$LibraryReader" "TouchShelf$Reader" "takes" "(Ljava/lang/String;)Z") ∈ lw_all := lw_g (lw_at lw_m3 208 rfl) rfl
theorem q785 : (Jvm.Cond.selects "TouchShelf$LibraryReader" ({ cls := "TouchShelf$LibraryReader", name := "takes", desc := "(Ljava/lang/String;)Z" } : Jvm.MethodName) ({ cls := "TouchShelf$Reader", name := "takes", desc := "(Ljava/lang/String;)Z" } : Jvm.MethodName)) ∈ lw_all := lw_g (lw_at lw_m3 210 rfl) rfl
theorem q786 : (Jvm.Cond.methodLink "TouchShelf$LibraryReader" (40 : Nat) ({ cls := "TouchShelf$LibraryReader", name := "number", desc := "(II)I" } : Jvm.MethodName)) ∈ lw_all := lw_g (lw_at lw_m3 211 rfl) rfl
theorem q787 : (Jvm.Cond.sameMethod "TouchShelf$LibraryReader" "TouchShelf$Reader" "number" "(II)I") ∈ lw_all := lw_g (lw_at lw_m3 212 rfl) rfl
theorem q788 : (Jvm.Cond.selects "TouchShelf$LibraryReader" ({ cls := "TouchShelf$LibraryReader", name := "number", desc := "(II)I" } : Jvm.MethodName) ({ cls := "TouchShelf$Reader", name := "number", desc := "(II)I" } : Jvm.MethodName)) ∈ lw_all := lw_g (lw_at lw_m3 213 rfl) rfl
theorem q789 : (Jvm.Cond.stringRef "TouchShelf$LibraryReader" (44 : Nat) "wear") ∈ lw_tbl := lw_at lw_m3 214 rfl
theorem q790 : (Jvm.Cond.stringRef "TouchShelf$LibraryReader" (48 : Nat) "rate") ∈ lw_tbl := lw_at lw_m3 215 rfl
theorem q791 : (Jvm.Cond.stringRef "TouchShelf$LibraryReader" (52 : Nat) "shelf") ∈ lw_tbl := lw_at lw_m3 216 rfl
theorem q792 : (Jvm.Cond.methodLink "TouchShelf$LibraryReader" (54 : Nat) ({ cls := "TouchShelf$LibraryReader", name := "shelf", desc := "(I)V" } : Jvm.MethodName)) ∈ lw_all := lw_g (lw_at lw_m3 217 rfl) rfl
theorem q793 : (Jvm.Cond.privateMethod ({ cls := "TouchShelf$LibraryReader", name := "shelf", desc := "(I)V" } : Jvm.MethodName)) ∈ lw_tbl := lw_at lw_m3 218 rfl
theorem q794 : (Jvm.Cond.instanceMethod ({ cls := "TouchShelf$LibraryReader", name := "shelf", desc := "(I)V" } : Jvm.MethodName)) ∈ lw_all := lw_g (lw_at lw_m3 219 rfl) rfl
theorem q795 : (Jvm.Cond.code ({ cls := "TouchShelf$LibraryReader", name := "shelf", desc := "(I)V" } : Jvm.MethodName) prog_9_method_5_code (6 : Nat) (Option.none : Option Jvm.ClassFile.FieldType)) ∈ lw_all := lw_g (lw_at lw_m3 220 rfl) rfl
theorem q796 : (Jvm.Cond.methodLink "TouchShelf$LibraryReader" (69 : Nat) ({ cls := "java/util/ArrayList", name := "size", desc := "()I" } : Jvm.MethodName)) ∈ lw_all := lw_g (lw_at lw_m3 221 rfl) rfl
theorem q797 : (Jvm.Cond.methodLink "TouchShelf$LibraryReader" (74 : Nat) ({ cls := "TouchShelf$LibraryReader", name := "also", desc := "(II)V" } : Jvm.MethodName)) ∈ lw_all := lw_g (lw_at lw_m3 222 rfl) rfl
theorem q798 : (Jvm.Cond.sameMethod "TouchShelf$LibraryReader" "TouchShelf$Reader" "also" "(II)V") ∈ lw_all := lw_g (lw_at lw_m3 223 rfl) rfl
theorem q799 : (Jvm.Cond.selects "TouchShelf$LibraryReader" ({ cls := "TouchShelf$LibraryReader", name := "also", desc := "(II)V" } : Jvm.MethodName) ({ cls := "TouchShelf$Reader", name := "also", desc := "(II)V" } : Jvm.MethodName)) ∈ lw_all := lw_g (lw_at lw_m3 224 rfl) rfl
theorem q800 : (Jvm.Cond.methodLink "TouchShelf$LibraryReader" (78 : Nat) ({ cls := "TouchShelf$LibraryReader", name := "mark", desc := "()I" } : Jvm.MethodName)) ∈ lw_all := lw_g (lw_at lw_m3 225 rfl) rfl
theorem q801 : (Jvm.Cond.sameMethod "TouchShelf$LibraryReader" "TouchShelf$Reader" "mark" "()I") ∈ lw_all := lw_g (lw_at lw_m3 226 rfl) rfl
theorem q803 : (Jvm.Cond.selects "TouchShelf$LibraryReader" ({ cls := "TouchShelf$LibraryReader", name := "mark", desc := "()I" } : Jvm.MethodName) ({ cls := "TouchShelf$Reader", name := "mark", desc := "()I" } : Jvm.MethodName)) ∈ lw_all := lw_g (lw_at lw_m3 228 rfl) rfl
theorem q806 : (Jvm.Cond.methodLink "TouchShelf$LibraryReader" (81 : Nat) ({ cls := "TouchShelf$LibraryReader", name := "isMark", desc := "()Z" } : Jvm.MethodName)) ∈ lw_all := lw_g (lw_at lw_m3 231 rfl) rfl
theorem q807 : (Jvm.Cond.sameMethod "TouchShelf$LibraryReader" "TouchShelf$Reader" "isMark" "()Z") ∈ lw_all := lw_g (lw_at lw_m3 232 rfl) rfl
theorem q809 : (Jvm.Cond.selects "TouchShelf$LibraryReader" ({ cls := "TouchShelf$LibraryReader", name := "isMark", desc := "()Z" } : Jvm.MethodName) ({ cls := "TouchShelf$Reader", name := "isMark", desc := "()Z" } : Jvm.MethodName)) ∈ lw_all := lw_g (lw_at lw_m3 234 rfl) rfl
theorem q812 : (Jvm.Cond.classLink "TouchShelf$LibraryReader" (85 : Nat) "TouchShelf$Shelf") ∈ lw_all := lw_g (lw_at lw_m3 237 rfl) rfl
theorem q814 : (Jvm.Cond.methodLink "TouchShelf$LibraryReader" (87 : Nat) ({ cls := "java/lang/Math", name := "min", desc := "(II)I" } : Jvm.MethodName)) ∈ lw_all := lw_g (lw_at lw_m3 239 rfl) rfl
theorem q815 : (Jvm.Cond.methodLink "TouchShelf$LibraryReader" (92 : Nat) ({ cls := "java/util/Arrays", name := "copyOf", desc := "([II)[I" } : Jvm.MethodName)) ∈ lw_all := lw_g (lw_at lw_m4 0 rfl) rfl
theorem q823 : (Jvm.Cond.methodLink "TouchShelf$LibraryReader" (98 : Nat) ({ cls := "TouchShelf$Shelf", name := "<init>", desc := "([I)V" } : Jvm.MethodName)) ∈ lw_all := lw_g (lw_at lw_m4 8 rfl) rfl
theorem q833 : (Jvm.Cond.fieldLinkNest "TouchShelf$LibraryReader" (108 : Nat) "TouchShelf$Shelf" "weight" "I" "TouchShelf") ∈ lw_tbl := lw_at lw_m4 18 rfl
theorem q840 : (Jvm.Cond.methodLink "TouchShelf$LibraryReader" (101 : Nat) ({ cls := "java/util/ArrayList", name := "add", desc := "(Ljava/lang/Object;)Z" } : Jvm.MethodName)) ∈ lw_all := lw_g (lw_at lw_m4 25 rfl) rfl
theorem q841 : (Jvm.Cond.stringRef "TouchShelf$LibraryReader" (57 : Nat) "weight") ∈ lw_tbl := lw_at lw_m4 26 rfl
theorem q842 : (Jvm.Cond.methodLink "TouchShelf$LibraryReader" (59 : Nat) ({ cls := "TouchShelf$LibraryReader", name := "weight", desc := "()V" } : Jvm.MethodName)) ∈ lw_all := lw_g (lw_at lw_m4 27 rfl) rfl
theorem q843 : (Jvm.Cond.privateMethod ({ cls := "TouchShelf$LibraryReader", name := "weight", desc := "()V" } : Jvm.MethodName)) ∈ lw_tbl := lw_at lw_m4 28 rfl
theorem q844 : (Jvm.Cond.instanceMethod ({ cls := "TouchShelf$LibraryReader", name := "weight", desc := "()V" } : Jvm.MethodName)) ∈ lw_all := lw_g (lw_at lw_m4 29 rfl) rfl
theorem q845 : (Jvm.Cond.code ({ cls := "TouchShelf$LibraryReader", name := "weight", desc := "()V" } : Jvm.MethodName) prog_9_method_6_code (3 : Nat) (Option.none : Option Jvm.ClassFile.FieldType)) ∈ lw_all := lw_g (lw_at lw_m4 30 rfl) rfl
theorem q846 : (Jvm.Cond.methodLink "TouchShelf$LibraryReader" (105 : Nat) ({ cls := "TouchShelf$Library", name := "shelf", desc := "(I)LTouchShelf$Shelf;" } : Jvm.MethodName)) ∈ lw_all := lw_g (lw_at lw_m4 31 rfl) rfl
theorem q863 : (Jvm.Cond.methodLink "TouchShelf$LibraryReader" (61 : Nat) ({ cls := "TouchShelf$LibraryReader", name := "wrong", desc := "()LTouchShelf$Fault;" } : Jvm.MethodName)) ∈ lw_all := lw_g (lw_at lw_m4 48 rfl) rfl
theorem q864 : (Jvm.Cond.sameMethod "TouchShelf$LibraryReader" "TouchShelf$Reader" "wrong" "()LTouchShelf$Fault;") ∈ lw_all := lw_g (lw_at lw_m4 49 rfl) rfl
theorem q865 : (Jvm.Cond.selects "TouchShelf$LibraryReader" ({ cls := "TouchShelf$LibraryReader", name := "wrong", desc := "()LTouchShelf$Fault;" } : Jvm.MethodName) ({ cls := "TouchShelf$Reader", name := "wrong", desc := "()LTouchShelf$Fault;" } : Jvm.MethodName)) ∈ lw_all := lw_g (lw_at lw_m4 50 rfl) rfl
theorem q912 : (Jvm.Cond.selects "TouchShelf$LibraryReader" ({ cls := "TouchShelf$Reader", name := "ends", desc := "()V" } : Jvm.MethodName) ({ cls := "TouchShelf$Reader", name := "ends", desc := "()V" } : Jvm.MethodName)) ∈ lw_all := lw_g (lw_at lw_m4 97 rfl) rfl
theorem q921 : (Jvm.Cond.selects "TouchShelf$LibraryReader" ({ cls := "TouchShelf$Reader", name := "isWhole", desc := "()Z" } : Jvm.MethodName) ({ cls := "TouchShelf$LibraryReader", name := "isWhole", desc := "()Z" } : Jvm.MethodName)) ∈ lw_all := lw_g (lw_at lw_m4 106 rfl) rfl
theorem q922 : (Jvm.Cond.instanceMethod ({ cls := "TouchShelf$LibraryReader", name := "isWhole", desc := "()Z" } : Jvm.MethodName)) ∈ lw_all := lw_g (lw_at lw_m4 107 rfl) rfl
theorem q923 : (Jvm.Cond.code ({ cls := "TouchShelf$LibraryReader", name := "isWhole", desc := "()Z" } : Jvm.MethodName) prog_9_method_3_code (1 : Nat) (Option.some Jvm.ClassFile.FieldType.boolean)) ∈ lw_all := lw_g (lw_at lw_m4 108 rfl) rfl
theorem q924 : (Jvm.Cond.methodLink "TouchShelf$LibraryReader" (27 : Nat) ({ cls := "TouchShelf$Library", name := "here", desc := "()I" } : Jvm.MethodName)) ∈ lw_all := lw_g (lw_at lw_m4 109 rfl) rfl
theorem q934 : (Jvm.Cond.methodLink "TouchShelf$LibraryReader" (31 : Nat) ({ cls := "TouchShelf$Library", name := "marks", desc := "()I" } : Jvm.MethodName)) ∈ lw_all := lw_g (lw_at lw_m4 119 rfl) rfl
theorem q2270 : (Jvm.Cond.selects "TouchShelf$LibraryReader" ({ cls := "TouchShelf$Reader", name := "wrong", desc := "()LTouchShelf$Fault;" } : Jvm.MethodName) ({ cls := "TouchShelf$Reader", name := "wrong", desc := "()LTouchShelf$Fault;" } : Jvm.MethodName)) ∈ lw_all := lw_g (lw_at lw_m10 15 rfl) rfl
theorem q2274 : (Jvm.Cond.selects "TouchShelf$LibraryReader" ({ cls := "TouchShelf$Reader", name := "also", desc := "(II)V" } : Jvm.MethodName) ({ cls := "TouchShelf$Reader", name := "also", desc := "(II)V" } : Jvm.MethodName)) ∈ lw_all := lw_g (lw_at lw_m10 19 rfl) rfl
theorem q2278 : (Jvm.Cond.selects "TouchShelf$LibraryReader" ({ cls := "TouchShelf$Reader", name := "number", desc := "(II)I" } : Jvm.MethodName) ({ cls := "TouchShelf$Reader", name := "number", desc := "(II)I" } : Jvm.MethodName)) ∈ lw_all := lw_g (lw_at lw_m10 23 rfl) rfl
theorem q2288 : (Jvm.Cond.castable "TouchShelf$LibraryReader" "java/lang/Object") ∈ lw_tbl := lw_at lw_m10 33 rfl
theorem in_X5 : ∀ w ∈ wsX50, w ∈ lw_all := lw_in wsX50 [536, 538, 540, 542, 544, 546, 548, 550, 534] (by decide +kernel) (by decide +kernel)
theorem q117 : (Jvm.Cond.initialized "TouchShelf$Library") ∈ lw_all := lw_g (lw_at lw_m1 22 rfl) rfl
theorem q496 : (Jvm.Cond.instantiable "TouchShelf$Library" (4 : Nat)) ∈ lw_all := lw_g (lw_at lw_m2 161 rfl) rfl
theorem q498 : (Jvm.Cond.instanceMethod ({ cls := "TouchShelf$Library", name := "<init>", desc := "()V" } : Jvm.MethodName)) ∈ lw_all := lw_g (lw_at lw_m2 163 rfl) rfl
theorem q499 : (Jvm.Cond.code ({ cls := "TouchShelf$Library", name := "<init>", desc := "()V" } : Jvm.MethodName) prog_8_method_1_code (1 : Nat) (Option.none : Option Jvm.ClassFile.FieldType)) ∈ lw_all := lw_g (lw_at lw_m2 164 rfl) rfl
theorem q500 : (Jvm.Cond.methodLink "TouchShelf$Library" (3 : Nat) ({ cls := "java/lang/Object", name := "<init>", desc := "()V" } : Jvm.MethodName)) ∈ lw_all := lw_g (lw_at lw_m2 165 rfl) rfl
theorem q501 : (Jvm.Cond.classLink "TouchShelf$Library" (21 : Nat) "java/util/ArrayList") ∈ lw_all := lw_g (lw_at lw_m2 166 rfl) rfl
theorem q502 : (Jvm.Cond.methodLink "TouchShelf$Library" (23 : Nat) ({ cls := "java/util/ArrayList", name := "<init>", desc := "(I)V" } : Jvm.MethodName)) ∈ lw_all := lw_g (lw_at lw_m2 167 rfl) rfl
theorem q503 : (Jvm.Cond.fieldLink "TouchShelf$Library" (9 : Nat) "TouchShelf$Library" "bits" "I") ∈ lw_all := lw_g (lw_at lw_m2 168 rfl) rfl
theorem q506 : (Jvm.Cond.fieldLink "TouchShelf$Library" (15 : Nat) "TouchShelf$Library" "wear" "I") ∈ lw_all := lw_g (lw_at lw_m2 171 rfl) rfl
theorem q509 : (Jvm.Cond.fieldLink "TouchShelf$Library" (18 : Nat) "TouchShelf$Library" "rate" "I") ∈ lw_all := lw_g (lw_at lw_m2 174 rfl) rfl
theorem q513 : (Jvm.Cond.fieldLink "TouchShelf$Library" (26 : Nat) "TouchShelf$Library" "shelves" "Ljava/util/ArrayList;") ∈ lw_all := lw_g (lw_at lw_m2 178 rfl) rfl
theorem q516 : (Jvm.Cond.lays "TouchShelf$Library" "TouchShelf$Library" "bits" "I") ∈ lw_all := lw_g (lw_at lw_m2 181 rfl) rfl
theorem q517 : (Jvm.Cond.soleField "TouchShelf$Library" "bits") ∈ lw_all := lw_g (lw_at lw_m2 182 rfl) rfl
theorem q518 : (Jvm.Cond.lays "TouchShelf$Library" "TouchShelf$Library" "wear" "I") ∈ lw_all := lw_g (lw_at lw_m2 183 rfl) rfl
theorem q519 : (Jvm.Cond.soleField "TouchShelf$Library" "wear") ∈ lw_all := lw_g (lw_at lw_m2 184 rfl) rfl
theorem q520 : (Jvm.Cond.lays "TouchShelf$Library" "TouchShelf$Library" "rate" "I") ∈ lw_all := lw_g (lw_at lw_m2 185 rfl) rfl
theorem q521 : (Jvm.Cond.soleField "TouchShelf$Library" "rate") ∈ lw_all := lw_g (lw_at lw_m2 186 rfl) rfl
theorem q522 : (Jvm.Cond.laysFinal "TouchShelf$Library" "TouchShelf$Library" "shelves" "Ljava/util/ArrayList;") ∈ lw_all := lw_g (lw_at lw_m2 187 rfl) rfl
theorem q523 : (Jvm.Cond.soleField "TouchShelf$Library" "shelves") ∈ lw_all := lw_g (lw_at lw_m2 188 rfl) rfl
theorem q524 : (Jvm.Cond.superclass "TouchShelf$Library" "java/lang/Object") ∈ lw_all := lw_g (lw_at lw_m2 189 rfl) rfl
theorem q754 : (Jvm.Cond.selects "TouchShelf$Library" ({ cls := "java/lang/Object", name := "getClass", desc := "()Ljava/lang/Class;" } : Jvm.MethodName) ({ cls := "java/lang/Object", name := "getClass", desc := "()Ljava/lang/Class;" } : Jvm.MethodName)) ∈ lw_all := lw_g (lw_at lw_m3 179 rfl) rfl
theorem q829 : (Jvm.Cond.fieldLinkNest "TouchShelf$Library" (60 : Nat) "TouchShelf$Shelf" "mark" "[I" "TouchShelf") ∈ lw_tbl := lw_at lw_m4 14 rfl
theorem q847 : (Jvm.Cond.instanceMethod ({ cls := "TouchShelf$Library", name := "shelf", desc := "(I)LTouchShelf$Shelf;" } : Jvm.MethodName)) ∈ lw_all := lw_g (lw_at lw_m4 32 rfl) rfl
theorem q848 : (Jvm.Cond.selects "TouchShelf$Library" ({ cls := "TouchShelf$Library", name := "shelf", desc := "(I)LTouchShelf$Shelf;" } : Jvm.MethodName) ({ cls := "TouchShelf$Library", name := "shelf", desc := "(I)LTouchShelf$Shelf;" } : Jvm.MethodName)) ∈ lw_all := lw_g (lw_at lw_m4 33 rfl) rfl
theorem q849 : (Jvm.Cond.code ({ cls := "TouchShelf$Library", name := "shelf", desc := "(I)LTouchShelf$Shelf;" } : Jvm.MethodName) prog_8_method_3_code (2 : Nat) (Option.some (Jvm.ClassFile.FieldType.object "TouchShelf$Shelf"))) ∈ lw_all := lw_g (lw_at lw_m4 34 rfl) rfl
theorem q850 : (Jvm.Cond.methodLink "TouchShelf$Library" (49 : Nat) ({ cls := "java/util/ArrayList", name := "get", desc := "(I)Ljava/lang/Object;" } : Jvm.MethodName)) ∈ lw_all := lw_g (lw_at lw_m4 35 rfl) rfl
theorem q862 : (Jvm.Cond.classLink "TouchShelf$Library" (40 : Nat) "TouchShelf$Shelf") ∈ lw_all := lw_g (lw_at lw_m4 47 rfl) rfl
theorem q925 : (Jvm.Cond.instanceMethod ({ cls := "TouchShelf$Library", name := "here", desc := "()I" } : Jvm.MethodName)) ∈ lw_all := lw_g (lw_at lw_m4 110 rfl) rfl
theorem q926 : (Jvm.Cond.selects "TouchShelf$Library" ({ cls := "TouchShelf$Library", name := "here", desc := "()I" } : Jvm.MethodName) ({ cls := "TouchShelf$Library", name := "here", desc := "()I" } : Jvm.MethodName)) ∈ lw_all := lw_g (lw_at lw_m4 111 rfl) rfl
theorem q927 : (Jvm.Cond.code ({ cls := "TouchShelf$Library", name := "here", desc := "()I" } : Jvm.MethodName) prog_8_method_9_code (4 : Nat) (Option.some Jvm.ClassFile.FieldType.int)) ∈ lw_all := lw_g (lw_at lw_m4 112 rfl) rfl
theorem q928 : (Jvm.Cond.methodLink "TouchShelf$Library" (31 : Nat) ({ cls := "java/util/ArrayList", name := "size", desc := "()I" } : Jvm.MethodName)) ∈ lw_all := lw_g (lw_at lw_m4 113 rfl) rfl
theorem q929 : (Jvm.Cond.methodLink "TouchShelf$Library" (35 : Nat) ({ cls := "TouchShelf$Library", name := "shelf", desc := "(I)LTouchShelf$Shelf;" } : Jvm.MethodName)) ∈ lw_all := lw_g (lw_at lw_m4 114 rfl) rfl
theorem q930 : (Jvm.Cond.methodLink "TouchShelf$Library" (67 : Nat) ({ cls := "TouchShelf$Shelf", name := "isTablet", desc := "(I)Z" } : Jvm.MethodName)) ∈ lw_all := lw_g (lw_at lw_m4 115 rfl) rfl
theorem q935 : (Jvm.Cond.instanceMethod ({ cls := "TouchShelf$Library", name := "marks", desc := "()I" } : Jvm.MethodName)) ∈ lw_all := lw_g (lw_at lw_m4 120 rfl) rfl
theorem q936 : (Jvm.Cond.selects "TouchShelf$Library" ({ cls := "TouchShelf$Library", name := "marks", desc := "()I" } : Jvm.MethodName) ({ cls := "TouchShelf$Library", name := "marks", desc := "()I" } : Jvm.MethodName)) ∈ lw_all := lw_g (lw_at lw_m4 121 rfl) rfl
theorem q937 : (Jvm.Cond.code ({ cls := "TouchShelf$Library", name := "marks", desc := "()I" } : Jvm.MethodName) prog_8_method_4_code (1 : Nat) (Option.some Jvm.ClassFile.FieldType.int)) ∈ lw_all := lw_g (lw_at lw_m4 122 rfl) rfl
theorem q1046 : (Jvm.Cond.instanceMethod ({ cls := "TouchShelf$Library", name := "close", desc := "(I)I" } : Jvm.MethodName)) ∈ lw_all := lw_g (lw_at lw_m4 231 rfl) rfl
theorem q1047 : (Jvm.Cond.selects "TouchShelf$Library" ({ cls := "TouchShelf$Library", name := "close", desc := "(I)I" } : Jvm.MethodName) ({ cls := "TouchShelf$Library", name := "close", desc := "(I)I" } : Jvm.MethodName)) ∈ lw_all := lw_g (lw_at lw_m4 232 rfl) rfl
theorem q1048 : (Jvm.Cond.code ({ cls := "TouchShelf$Library", name := "close", desc := "(I)I" } : Jvm.MethodName) prog_8_method_11_code (5 : Nat) (Option.some Jvm.ClassFile.FieldType.int)) ∈ lw_all := lw_g (lw_at lw_m4 233 rfl) rfl
theorem q1049 : (Jvm.Cond.methodLink "TouchShelf$Library" (53 : Nat) ({ cls := "TouchShelf$Library", name := "marks", desc := "()I" } : Jvm.MethodName)) ∈ lw_all := lw_g (lw_at lw_m4 234 rfl) rfl
theorem q1050 : (Jvm.Cond.methodLinkNest "TouchShelf$Library" (77 : Nat) ({ cls := "TouchShelf", name := "has", desc := "(JI)Z" } : Jvm.MethodName) "TouchShelf") ∈ lw_tbl := lw_at lw_m4 235 rfl
theorem q1053 : (Jvm.Cond.methodLinkNest "TouchShelf$Library" (81 : Nat) ({ cls := "TouchShelf", name := "off", desc := "(II)I" } : Jvm.MethodName) "TouchShelf") ∈ lw_tbl := lw_at lw_m4 238 rfl
theorem q1064 : (Jvm.Cond.instanceMethod ({ cls := "TouchShelf$Library", name := "tablets", desc := "()I" } : Jvm.MethodName)) ∈ lw_all := lw_g (lw_at lw_m5 9 rfl) rfl
theorem q1065 : (Jvm.Cond.selects "TouchShelf$Library" ({ cls := "TouchShelf$Library", name := "tablets", desc := "()I" } : Jvm.MethodName) ({ cls := "TouchShelf$Library", name := "tablets", desc := "()I" } : Jvm.MethodName)) ∈ lw_all := lw_g (lw_at lw_m5 10 rfl) rfl
theorem q1066 : (Jvm.Cond.code ({ cls := "TouchShelf$Library", name := "tablets", desc := "()I" } : Jvm.MethodName) prog_8_method_8_code (3 : Nat) (Option.some Jvm.ClassFile.FieldType.int)) ∈ lw_all := lw_g (lw_at lw_m5 11 rfl) rfl
theorem q1067 : (Jvm.Cond.methodLink "TouchShelf$Library" (64 : Nat) ({ cls := "TouchShelf$Shelf", name := "tablets", desc := "()I" } : Jvm.MethodName)) ∈ lw_all := lw_g (lw_at lw_m5 12 rfl) rfl
theorem q1219 : (Jvm.Cond.instanceMethod ({ cls := "TouchShelf$Library", name := "isPlace", desc := "(II)Z" } : Jvm.MethodName)) ∈ lw_all := lw_g (lw_at lw_m5 164 rfl) rfl
theorem q1220 : (Jvm.Cond.selects "TouchShelf$Library" ({ cls := "TouchShelf$Library", name := "isPlace", desc := "(II)Z" } : Jvm.MethodName) ({ cls := "TouchShelf$Library", name := "isPlace", desc := "(II)Z" } : Jvm.MethodName)) ∈ lw_all := lw_g (lw_at lw_m5 165 rfl) rfl
theorem q1221 : (Jvm.Cond.code ({ cls := "TouchShelf$Library", name := "isPlace", desc := "(II)Z" } : Jvm.MethodName) prog_8_method_7_code (3 : Nat) (Option.some Jvm.ClassFile.FieldType.boolean)) ∈ lw_all := lw_g (lw_at lw_m5 166 rfl) rfl
theorem q1222 : (Jvm.Cond.methodLinkNest "TouchShelf$Library" (56 : Nat) ({ cls := "TouchShelf", name := "isIn", desc := "(III)Z" } : Jvm.MethodName) "TouchShelf") ∈ lw_tbl := lw_at lw_m5 167 rfl
theorem q1232 : (Jvm.Cond.instanceMethod ({ cls := "TouchShelf$Library", name := "isMark", desc := "(I)Z" } : Jvm.MethodName)) ∈ lw_all := lw_g (lw_at lw_m5 177 rfl) rfl
theorem q1233 : (Jvm.Cond.selects "TouchShelf$Library" ({ cls := "TouchShelf$Library", name := "isMark", desc := "(I)Z" } : Jvm.MethodName) ({ cls := "TouchShelf$Library", name := "isMark", desc := "(I)Z" } : Jvm.MethodName)) ∈ lw_all := lw_g (lw_at lw_m5 178 rfl) rfl
theorem q1234 : (Jvm.Cond.code ({ cls := "TouchShelf$Library", name := "isMark", desc := "(I)Z" } : Jvm.MethodName) prog_8_method_6_code (2 : Nat) (Option.some Jvm.ClassFile.FieldType.boolean)) ∈ lw_all := lw_g (lw_at lw_m5 179 rfl) rfl
theorem q1242 : (Jvm.Cond.instanceMethod ({ cls := "TouchShelf$Library", name := "readings", desc := "(I)I" } : Jvm.MethodName)) ∈ lw_all := lw_g (lw_at lw_m5 187 rfl) rfl
theorem q1243 : (Jvm.Cond.selects "TouchShelf$Library" ({ cls := "TouchShelf$Library", name := "readings", desc := "(I)I" } : Jvm.MethodName) ({ cls := "TouchShelf$Library", name := "readings", desc := "(I)I" } : Jvm.MethodName)) ∈ lw_all := lw_g (lw_at lw_m5 188 rfl) rfl
theorem q1244 : (Jvm.Cond.code ({ cls := "TouchShelf$Library", name := "readings", desc := "(I)I" } : Jvm.MethodName) prog_8_method_10_code (4 : Nat) (Option.some Jvm.ClassFile.FieldType.int)) ∈ lw_all := lw_g (lw_at lw_m5 189 rfl) rfl
theorem q1245 : (Jvm.Cond.methodLink "TouchShelf$Library" (71 : Nat) ({ cls := "java/lang/Integer", name := "bitCount", desc := "(I)I" } : Jvm.MethodName)) ∈ lw_all := lw_g (lw_at lw_m5 190 rfl) rfl
theorem q1264 : (Jvm.Cond.instanceMethod ({ cls := "TouchShelf$Library", name := "every", desc := "()I" } : Jvm.MethodName)) ∈ lw_all := lw_g (lw_at lw_m5 209 rfl) rfl
theorem q1265 : (Jvm.Cond.selects "TouchShelf$Library" ({ cls := "TouchShelf$Library", name := "every", desc := "()I" } : Jvm.MethodName) ({ cls := "TouchShelf$Library", name := "every", desc := "()I" } : Jvm.MethodName)) ∈ lw_all := lw_g (lw_at lw_m5 210 rfl) rfl
theorem q1266 : (Jvm.Cond.code ({ cls := "TouchShelf$Library", name := "every", desc := "()I" } : Jvm.MethodName) prog_8_method_5_code (1 : Nat) (Option.some Jvm.ClassFile.FieldType.int)) ∈ lw_all := lw_g (lw_at lw_m5 211 rfl) rfl
theorem q1386 : (Jvm.Cond.instanceMethod ({ cls := "TouchShelf$Library", name := "copy", desc := "()LTouchShelf$Library;" } : Jvm.MethodName)) ∈ lw_all := lw_g (lw_at lw_m6 91 rfl) rfl
theorem q1387 : (Jvm.Cond.selects "TouchShelf$Library" ({ cls := "TouchShelf$Library", name := "copy", desc := "()LTouchShelf$Library;" } : Jvm.MethodName) ({ cls := "TouchShelf$Library", name := "copy", desc := "()LTouchShelf$Library;" } : Jvm.MethodName)) ∈ lw_all := lw_g (lw_at lw_m6 92 rfl) rfl
theorem q1388 : (Jvm.Cond.code ({ cls := "TouchShelf$Library", name := "copy", desc := "()LTouchShelf$Library;" } : Jvm.MethodName) prog_8_method_2_code (3 : Nat) (Option.some (Jvm.ClassFile.FieldType.object "TouchShelf$Library"))) ∈ lw_all := lw_g (lw_at lw_m6 93 rfl) rfl
theorem q1389 : (Jvm.Cond.classLink "TouchShelf$Library" (10 : Nat) "TouchShelf$Library") ∈ lw_all := lw_g (lw_at lw_m6 94 rfl) rfl
theorem q1390 : (Jvm.Cond.methodLink "TouchShelf$Library" (30 : Nat) ({ cls := "TouchShelf$Library", name := "<init>", desc := "()V" } : Jvm.MethodName)) ∈ lw_all := lw_g (lw_at lw_m6 95 rfl) rfl
theorem q1391 : (Jvm.Cond.methodLink "TouchShelf$Library" (39 : Nat) ({ cls := "TouchShelf$Shelf", name := "copy", desc := "()LTouchShelf$Shelf;" } : Jvm.MethodName)) ∈ lw_all := lw_g (lw_at lw_m6 96 rfl) rfl
theorem q1392 : (Jvm.Cond.methodLink "TouchShelf$Library" (45 : Nat) ({ cls := "java/util/ArrayList", name := "add", desc := "(Ljava/lang/Object;)Z" } : Jvm.MethodName)) ∈ lw_all := lw_g (lw_at lw_m6 97 rfl) rfl
theorem q2291 : (Jvm.Cond.castable "TouchShelf$Library" "java/lang/Object") ∈ lw_tbl := lw_at lw_m10 36 rfl
theorem in_X6 : ∀ w ∈ wsX60, w ∈ lw_all := lw_in wsX60 [516, 518, 520, 522] (by decide +kernel) (by decide +kernel)
theorem q118 : (Jvm.Cond.initialized "TouchShelf$DaybookReader") ∈ lw_all := lw_g (lw_at lw_m1 23 rfl) rfl
theorem q282 : (Jvm.Cond.selects "TouchShelf$DaybookReader" ({ cls := "TouchShelf$Reader", name := "step", desc := "()V" } : Jvm.MethodName) ({ cls := "TouchShelf$Reader", name := "step", desc := "()V" } : Jvm.MethodName)) ∈ lw_all := lw_g (lw_at lw_m1 187 rfl) rfl
theorem q566 : (Jvm.Cond.selects "TouchShelf$DaybookReader" ({ cls := "TouchShelf$Reader", name := "line", desc := "()V" } : Jvm.MethodName) ({ cls := "TouchShelf$DaybookReader", name := "line", desc := "()V" } : Jvm.MethodName)) ∈ lw_all := lw_g (lw_at lw_m2 231 rfl) rfl
theorem q567 : (Jvm.Cond.instanceMethod ({ cls := "TouchShelf$DaybookReader", name := "line", desc := "()V" } : Jvm.MethodName)) ∈ lw_all := lw_g (lw_at lw_m2 232 rfl) rfl
theorem q568 : (Jvm.Cond.code ({ cls := "TouchShelf$DaybookReader", name := "line", desc := "()V" } : Jvm.MethodName) prog_3_method_4_code (7 : Nat) (Option.none : Option Jvm.ClassFile.FieldType)) ∈ lw_all := lw_g (lw_at lw_m2 233 rfl) rfl
theorem q569 : (Jvm.Cond.methodLink "TouchShelf$DaybookReader" (23 : Nat) ({ cls := "TouchShelf$DaybookReader", name := "here", desc := "()I" } : Jvm.MethodName)) ∈ lw_all := lw_g (lw_at lw_m2 234 rfl) rfl
theorem q570 : (Jvm.Cond.sameMethod "TouchShelf$DaybookReader" "TouchShelf$Reader" "here" "()I") ∈ lw_all := lw_g (lw_at lw_m2 235 rfl) rfl
theorem q572 : (Jvm.Cond.selects "TouchShelf$DaybookReader" ({ cls := "TouchShelf$DaybookReader", name := "here", desc := "()I" } : Jvm.MethodName) ({ cls := "TouchShelf$Reader", name := "here", desc := "()I" } : Jvm.MethodName)) ∈ lw_all := lw_g (lw_at lw_m2 237 rfl) rfl
theorem q575 : (Jvm.Cond.fieldLink "TouchShelf$DaybookReader" (27 : Nat) "TouchShelf$DaybookReader" "WORDS" "[Ljava/lang/String;") ∈ lw_all := lw_g (lw_at lw_m3 0 rfl) rfl
theorem q576 : (Jvm.Cond.laysStatic "TouchShelf$DaybookReader" "WORDS" "[Ljava/lang/String;") ∈ lw_tbl := lw_at lw_m3 1 rfl
theorem q577 : (Jvm.Cond.methodLink "TouchShelf$DaybookReader" (31 : Nat) ({ cls := "TouchShelf$DaybookReader", name := "word", desc := "([Ljava/lang/String;)I" } : Jvm.MethodName)) ∈ lw_all := lw_g (lw_at lw_m3 2 rfl) rfl
theorem q578 : (Jvm.Cond.sameMethod "TouchShelf$DaybookReader" "TouchShelf$Reader" "word" "([Ljava/lang/String;)I") ∈ lw_all := lw_g (lw_at lw_m3 3 rfl) rfl
theorem q580 : (Jvm.Cond.selects "TouchShelf$DaybookReader" ({ cls := "TouchShelf$DaybookReader", name := "word", desc := "([Ljava/lang/String;)I" } : Jvm.MethodName) ({ cls := "TouchShelf$Reader", name := "word", desc := "([Ljava/lang/String;)I" } : Jvm.MethodName)) ∈ lw_all := lw_g (lw_at lw_m3 5 rfl) rfl
theorem q586 : (Jvm.Cond.selects "TouchShelf$DaybookReader" ({ cls := "TouchShelf$Reader", name := "takes", desc := "(Ljava/lang/String;)Z" } : Jvm.MethodName) ({ cls := "TouchShelf$Reader", name := "takes", desc := "(Ljava/lang/String;)Z" } : Jvm.MethodName)) ∈ lw_all := lw_g (lw_at lw_m3 11 rfl) rfl
theorem q598 : (Jvm.Cond.methodLink "TouchShelf$DaybookReader" (35 : Nat) ({ cls := "TouchShelf$DaybookReader", name := "wrong", desc := "()LTouchShelf$Fault;" } : Jvm.MethodName)) ∈ lw_all := lw_g (lw_at lw_m3 23 rfl) rfl
theorem q599 : (Jvm.Cond.sameMethod "TouchShelf$DaybookReader" "TouchShelf$Reader" "wrong" "()LTouchShelf$Fault;") ∈ lw_all := lw_g (lw_at lw_m3 24 rfl) rfl
theorem q601 : (Jvm.Cond.selects "TouchShelf$DaybookReader" ({ cls := "TouchShelf$DaybookReader", name := "wrong", desc := "()LTouchShelf$Fault;" } : Jvm.MethodName) ({ cls := "TouchShelf$Reader", name := "wrong", desc := "()LTouchShelf$Fault;" } : Jvm.MethodName)) ∈ lw_all := lw_g (lw_at lw_m3 26 rfl) rfl
theorem q670 : (Jvm.Cond.methodLink "TouchShelf$DaybookReader" (39 : Nat) ({ cls := "java/util/ArrayList", name := "size", desc := "()I" } : Jvm.MethodName)) ∈ lw_all := lw_g (lw_at lw_m3 95 rfl) rfl
theorem q671 : (Jvm.Cond.methodLink "TouchShelf$DaybookReader" (42 : Nat) ({ cls := "TouchShelf$DaybookReader", name := "also", desc := "(II)V" } : Jvm.MethodName)) ∈ lw_all := lw_g (lw_at lw_m3 96 rfl) rfl
theorem q672 : (Jvm.Cond.sameMethod "TouchShelf$DaybookReader" "TouchShelf$Reader" "also" "(II)V") ∈ lw_all := lw_g (lw_at lw_m3 97 rfl) rfl
theorem q674 : (Jvm.Cond.selects "TouchShelf$DaybookReader" ({ cls := "TouchShelf$DaybookReader", name := "also", desc := "(II)V" } : Jvm.MethodName) ({ cls := "TouchShelf$Reader", name := "also", desc := "(II)V" } : Jvm.MethodName)) ∈ lw_all := lw_g (lw_at lw_m3 99 rfl) rfl
theorem q677 : (Jvm.Cond.fieldLinkNest "TouchShelf$DaybookReader" (46 : Nat) "TouchShelf" "DOINGS" "[LTouchShelf$Doing;" "TouchShelf") ∈ lw_tbl := lw_at lw_m3 102 rfl
theorem q679 : (Jvm.Cond.methodLink "TouchShelf$DaybookReader" (50 : Nat) ({ cls := "TouchShelf$DaybookReader", name := "number", desc := "(II)I" } : Jvm.MethodName)) ∈ lw_all := lw_g (lw_at lw_m3 104 rfl) rfl
theorem q680 : (Jvm.Cond.sameMethod "TouchShelf$DaybookReader" "TouchShelf$Reader" "number" "(II)I") ∈ lw_all := lw_g (lw_at lw_m3 105 rfl) rfl
theorem q682 : (Jvm.Cond.selects "TouchShelf$DaybookReader" ({ cls := "TouchShelf$DaybookReader", name := "number", desc := "(II)I" } : Jvm.MethodName) ({ cls := "TouchShelf$Reader", name := "number", desc := "(II)I" } : Jvm.MethodName)) ∈ lw_all := lw_g (lw_at lw_m3 107 rfl) rfl
theorem q688 : (Jvm.Cond.fieldLink "TouchShelf$DaybookReader" (54 : Nat) "TouchShelf$Doing" "TAKE" "LTouchShelf$Doing;") ∈ lw_all := lw_g (lw_at lw_m3 113 rfl) rfl
theorem q690 : (Jvm.Cond.fieldLink "TouchShelf$DaybookReader" (60 : Nat) "TouchShelf$Doing" "SLIDE" "LTouchShelf$Doing;") ∈ lw_all := lw_g (lw_at lw_m3 115 rfl) rfl
theorem q692 : (Jvm.Cond.methodLink "TouchShelf$DaybookReader" (63 : Nat) ({ cls := "TouchShelf$DaybookReader", name := "other", desc := "(II)I" } : Jvm.MethodName)) ∈ lw_all := lw_g (lw_at lw_m3 117 rfl) rfl
theorem q693 : (Jvm.Cond.sameMethod "TouchShelf$DaybookReader" "TouchShelf$Reader" "other" "(II)I") ∈ lw_all := lw_g (lw_at lw_m3 118 rfl) rfl
theorem q695 : (Jvm.Cond.selects "TouchShelf$DaybookReader" ({ cls := "TouchShelf$DaybookReader", name := "other", desc := "(II)I" } : Jvm.MethodName) ({ cls := "TouchShelf$Reader", name := "other", desc := "(II)I" } : Jvm.MethodName)) ∈ lw_all := lw_g (lw_at lw_m3 120 rfl) rfl
theorem q699 : (Jvm.Cond.classLink "TouchShelf$DaybookReader" (66 : Nat) "TouchShelf$Deed") ∈ lw_all := lw_g (lw_at lw_m3 124 rfl) rfl
theorem q701 : (Jvm.Cond.methodLink "TouchShelf$DaybookReader" (68 : Nat) ({ cls := "TouchShelf$Deed", name := "<init>", desc := "(LTouchShelf$Doing;III)V" } : Jvm.MethodName)) ∈ lw_all := lw_g (lw_at lw_m3 126 rfl) rfl
theorem q722 : (Jvm.Cond.methodLink "TouchShelf$DaybookReader" (71 : Nat) ({ cls := "java/util/ArrayList", name := "add", desc := "(Ljava/lang/Object;)Z" } : Jvm.MethodName)) ∈ lw_all := lw_g (lw_at lw_m3 147 rfl) rfl
theorem q749 : (Jvm.Cond.selects "TouchShelf$DaybookReader" ({ cls := "java/lang/Object", name := "getClass", desc := "()Ljava/lang/Class;" } : Jvm.MethodName) ({ cls := "java/lang/Object", name := "getClass", desc := "()Ljava/lang/Class;" } : Jvm.MethodName)) ∈ lw_all := lw_g (lw_at lw_m3 174 rfl) rfl
theorem q911 : (Jvm.Cond.selects "TouchShelf$DaybookReader" ({ cls := "TouchShelf$Reader", name := "ends", desc := "()V" } : Jvm.MethodName) ({ cls := "TouchShelf$Reader", name := "ends", desc := "()V" } : Jvm.MethodName)) ∈ lw_all := lw_g (lw_at lw_m4 96 rfl) rfl
theorem q918 : (Jvm.Cond.selects "TouchShelf$DaybookReader" ({ cls := "TouchShelf$Reader", name := "isWhole", desc := "()Z" } : Jvm.MethodName) ({ cls := "TouchShelf$DaybookReader", name := "isWhole", desc := "()Z" } : Jvm.MethodName)) ∈ lw_all := lw_g (lw_at lw_m4 103 rfl) rfl
theorem q919 : (Jvm.Cond.instanceMethod ({ cls := "TouchShelf$DaybookReader", name := "isWhole", desc := "()Z" } : Jvm.MethodName)) ∈ lw_all := lw_g (lw_at lw_m4 104 rfl) rfl
theorem q920 : (Jvm.Cond.code ({ cls := "TouchShelf$DaybookReader", name := "isWhole", desc := "()Z" } : Jvm.MethodName) prog_3_method_3_code (1 : Nat) (Option.some Jvm.ClassFile.FieldType.boolean)) ∈ lw_all := lw_g (lw_at lw_m4 105 rfl) rfl
theorem q955 : (Jvm.Cond.instantiable "TouchShelf$DaybookReader" (9 : Nat)) ∈ lw_all := lw_g (lw_at lw_m4 140 rfl) rfl
theorem q957 : (Jvm.Cond.instanceMethod ({ cls := "TouchShelf$DaybookReader", name := "<init>", desc := "([BI)V" } : Jvm.MethodName)) ∈ lw_all := lw_g (lw_at lw_m4 142 rfl) rfl
theorem q958 : (Jvm.Cond.code ({ cls := "TouchShelf$DaybookReader", name := "<init>", desc := "([BI)V" } : Jvm.MethodName) prog_3_method_1_code (3 : Nat) (Option.none : Option Jvm.ClassFile.FieldType)) ∈ lw_all := lw_g (lw_at lw_m4 143 rfl) rfl
theorem q959 : (Jvm.Cond.methodLink "TouchShelf$DaybookReader" (3 : Nat) ({ cls := "TouchShelf$Reader", name := "<init>", desc := "([BI)V" } : Jvm.MethodName)) ∈ lw_all := lw_g (lw_at lw_m4 144 rfl) rfl
theorem q960 : (Jvm.Cond.classLink "TouchShelf$DaybookReader" (9 : Nat) "java/util/ArrayList") ∈ lw_all := lw_g (lw_at lw_m4 145 rfl) rfl
theorem q961 : (Jvm.Cond.methodLink "TouchShelf$DaybookReader" (11 : Nat) ({ cls := "java/util/ArrayList", name := "<init>", desc := "()V" } : Jvm.MethodName)) ∈ lw_all := lw_g (lw_at lw_m4 146 rfl) rfl
theorem q964 : (Jvm.Cond.fieldLink "TouchShelf$DaybookReader" (14 : Nat) "TouchShelf$DaybookReader" "deeds" "Ljava/util/ArrayList;") ∈ lw_all := lw_g (lw_at lw_m4 149 rfl) rfl
theorem q965 : (Jvm.Cond.laysFinal "TouchShelf$DaybookReader" "TouchShelf$DaybookReader" "deeds" "Ljava/util/ArrayList;") ∈ lw_all := lw_g (lw_at lw_m4 150 rfl) rfl
theorem q966 : (Jvm.Cond.soleField "TouchShelf$DaybookReader" "deeds") ∈ lw_all := lw_g (lw_at lw_m4 151 rfl) rfl
theorem q967 : (Jvm.Cond.laysFinal "TouchShelf$DaybookReader" "TouchShelf$Reader" "tape" "[B") ∈ lw_all := lw_g (lw_at lw_m4 152 rfl) rfl
theorem q968 : (Jvm.Cond.laysFinal "TouchShelf$DaybookReader" "TouchShelf$Reader" "size" "I") ∈ lw_all := lw_g (lw_at lw_m4 153 rfl) rfl
theorem q969 : (Jvm.Cond.lays "TouchShelf$DaybookReader" "TouchShelf$Reader" "next" "I") ∈ lw_all := lw_g (lw_at lw_m4 154 rfl) rfl
theorem q970 : (Jvm.Cond.lays "TouchShelf$DaybookReader" "TouchShelf$Reader" "place" "I") ∈ lw_all := lw_g (lw_at lw_m4 155 rfl) rfl
theorem q971 : (Jvm.Cond.lays "TouchShelf$DaybookReader" "TouchShelf$Reader" "value" "I") ∈ lw_all := lw_g (lw_at lw_m4 156 rfl) rfl
theorem q972 : (Jvm.Cond.lays "TouchShelf$DaybookReader" "TouchShelf$Reader" "token" "LTouchShelf$Token;") ∈ lw_all := lw_g (lw_at lw_m4 157 rfl) rfl
theorem q973 : (Jvm.Cond.lays "TouchShelf$DaybookReader" "TouchShelf$Reader" "text" "Ljava/lang/String;") ∈ lw_all := lw_g (lw_at lw_m4 158 rfl) rfl
theorem q974 : (Jvm.Cond.lays "TouchShelf$DaybookReader" "TouchShelf$Reader" "also" "LTouchShelf$Fault;") ∈ lw_all := lw_g (lw_at lw_m4 159 rfl) rfl
theorem q975 : (Jvm.Cond.superclass "TouchShelf$DaybookReader" "TouchShelf$Reader") ∈ lw_all := lw_g (lw_at lw_m4 160 rfl) rfl
theorem q977 : (Jvm.Cond.instanceMethod ({ cls := "TouchShelf$DaybookReader", name := "read", desc := "()Ljava/util/ArrayList;" } : Jvm.MethodName)) ∈ lw_all := lw_g (lw_at lw_m4 162 rfl) rfl
theorem q978 : (Jvm.Cond.selects "TouchShelf$DaybookReader" ({ cls := "TouchShelf$DaybookReader", name := "read", desc := "()Ljava/util/ArrayList;" } : Jvm.MethodName) ({ cls := "TouchShelf$DaybookReader", name := "read", desc := "()Ljava/util/ArrayList;" } : Jvm.MethodName)) ∈ lw_all := lw_g (lw_at lw_m4 163 rfl) rfl
theorem q979 : (Jvm.Cond.code ({ cls := "TouchShelf$DaybookReader", name := "read", desc := "()Ljava/util/ArrayList;" } : Jvm.MethodName) prog_3_method_2_code (1 : Nat) (Option.some (Jvm.ClassFile.FieldType.object "java/util/ArrayList"))) ∈ lw_all := lw_g (lw_at lw_m4 164 rfl) rfl
theorem q980 : (Jvm.Cond.methodLink "TouchShelf$DaybookReader" (20 : Nat) ({ cls := "TouchShelf$DaybookReader", name := "lines", desc := "()V" } : Jvm.MethodName)) ∈ lw_all := lw_g (lw_at lw_m4 165 rfl) rfl
theorem q981 : (Jvm.Cond.sameMethod "TouchShelf$DaybookReader" "TouchShelf$Reader" "lines" "()V") ∈ lw_all := lw_g (lw_at lw_m4 166 rfl) rfl
theorem q982 : (Jvm.Cond.selects "TouchShelf$DaybookReader" ({ cls := "TouchShelf$DaybookReader", name := "lines", desc := "()V" } : Jvm.MethodName) ({ cls := "TouchShelf$Reader", name := "lines", desc := "()V" } : Jvm.MethodName)) ∈ lw_all := lw_g (lw_at lw_m4 167 rfl) rfl
theorem q2269 : (Jvm.Cond.selects "TouchShelf$DaybookReader" ({ cls := "TouchShelf$Reader", name := "wrong", desc := "()LTouchShelf$Fault;" } : Jvm.MethodName) ({ cls := "TouchShelf$Reader", name := "wrong", desc := "()LTouchShelf$Fault;" } : Jvm.MethodName)) ∈ lw_all := lw_g (lw_at lw_m10 14 rfl) rfl
theorem q2273 : (Jvm.Cond.selects "TouchShelf$DaybookReader" ({ cls := "TouchShelf$Reader", name := "also", desc := "(II)V" } : Jvm.MethodName) ({ cls := "TouchShelf$Reader", name := "also", desc := "(II)V" } : Jvm.MethodName)) ∈ lw_all := lw_g (lw_at lw_m10 18 rfl) rfl
theorem q2277 : (Jvm.Cond.selects "TouchShelf$DaybookReader" ({ cls := "TouchShelf$Reader", name := "number", desc := "(II)I" } : Jvm.MethodName) ({ cls := "TouchShelf$Reader", name := "number", desc := "(II)I" } : Jvm.MethodName)) ∈ lw_all := lw_g (lw_at lw_m10 22 rfl) rfl
theorem q2294 : (Jvm.Cond.castable "TouchShelf$DaybookReader" "java/lang/Object") ∈ lw_tbl := lw_at lw_m10 39 rfl
theorem q2316 : (Jvm.Cond.stringRef "TouchShelf$DaybookReader" (77 : Nat) "put") ∈ lw_tbl := lw_at lw_m10 61 rfl
theorem q2317 : (Jvm.Cond.stringRef "TouchShelf$DaybookReader" (79 : Nat) "take") ∈ lw_tbl := lw_at lw_m10 62 rfl
theorem q2318 : (Jvm.Cond.stringRef "TouchShelf$DaybookReader" (81 : Nat) "slide") ∈ lw_tbl := lw_at lw_m10 63 rfl
theorem q2319 : (Jvm.Cond.stringRef "TouchShelf$DaybookReader" (83 : Nat) "feel") ∈ lw_tbl := lw_at lw_m10 64 rfl
theorem in_X7 : ∀ w ∈ wsX70, w ∈ lw_all := lw_in wsX70 [967, 968, 969, 970, 971, 972, 973, 974, 965] (by decide +kernel) (by decide +kernel)
theorem q121 : (Jvm.Cond.initialized "TouchShelf$Fault") ∈ lw_all := lw_g (lw_at lw_m1 26 rfl) rfl
theorem q605 : (Jvm.Cond.instantiable "TouchShelf$Fault" (8 : Nat)) ∈ lw_all := lw_g (lw_at lw_m3 30 rfl) rfl
theorem q606 : (Jvm.Cond.castable "TouchShelf$Fault" "TouchShelf$Fault") ∈ lw_tbl := lw_at lw_m3 31 rfl
theorem q611 : (Jvm.Cond.selects "TouchShelf$Fault" ({ cls := "java/lang/Throwable", name := "fillInStackTrace", desc := "(I)Ljava/lang/Throwable;" } : Jvm.MethodName) ({ cls := "java/lang/Throwable", name := "fillInStackTrace", desc := "(I)Ljava/lang/Throwable;" } : Jvm.MethodName)) ∈ lw_all := lw_g (lw_at lw_m3 36 rfl) rfl
theorem q612 : (Jvm.Cond.selects "TouchShelf$Fault" ({ cls := "java/lang/Throwable", name := "fillInStackTrace", desc := "()Ljava/lang/Throwable;" } : Jvm.MethodName) ({ cls := "java/lang/Throwable", name := "fillInStackTrace", desc := "()Ljava/lang/Throwable;" } : Jvm.MethodName)) ∈ lw_all := lw_g (lw_at lw_m3 37 rfl) rfl
theorem q613 : (Jvm.Cond.lays "TouchShelf$Fault" "java/lang/Throwable" "cause" "Ljava/lang/Throwable;") ∈ lw_all := lw_g (lw_at lw_m3 38 rfl) rfl
theorem q615 : (Jvm.Cond.lays "TouchShelf$Fault" "java/lang/Throwable" "stackTrace" "[Ljava/lang/StackTraceElement;") ∈ lw_all := lw_g (lw_at lw_m3 40 rfl) rfl
theorem q617 : (Jvm.Cond.lays "TouchShelf$Fault" "java/lang/Throwable" "suppressedExceptions" "Ljava/util/List;") ∈ lw_all := lw_g (lw_at lw_m3 42 rfl) rfl
theorem q619 : (Jvm.Cond.lays "TouchShelf$Fault" "java/lang/Throwable" "detailMessage" "Ljava/lang/String;") ∈ lw_all := lw_g (lw_at lw_m3 44 rfl) rfl
theorem q621 : (Jvm.Cond.lays "TouchShelf$Fault" "java/lang/Throwable" "backtrace" "Ljava/lang/Object;") ∈ lw_all := lw_g (lw_at lw_m3 46 rfl) rfl
theorem q642 : (Jvm.Cond.instanceMethod ({ cls := "TouchShelf$Fault", name := "<init>", desc := "(II)V" } : Jvm.MethodName)) ∈ lw_all := lw_g (lw_at lw_m3 67 rfl) rfl
theorem q643 : (Jvm.Cond.code ({ cls := "TouchShelf$Fault", name := "<init>", desc := "(II)V" } : Jvm.MethodName) prog_7_method_1_code (3 : Nat) (Option.none : Option Jvm.ClassFile.FieldType)) ∈ lw_all := lw_g (lw_at lw_m3 68 rfl) rfl
theorem q644 : (Jvm.Cond.methodLink "TouchShelf$Fault" (1 : Nat) ({ cls := "java/lang/Exception", name := "<init>", desc := "()V" } : Jvm.MethodName)) ∈ lw_all := lw_g (lw_at lw_m3 69 rfl) rfl
theorem q648 : (Jvm.Cond.fieldLink "TouchShelf$Fault" (7 : Nat) "TouchShelf$Fault" "kind" "I") ∈ lw_all := lw_g (lw_at lw_m3 73 rfl) rfl
theorem q651 : (Jvm.Cond.fieldLink "TouchShelf$Fault" (13 : Nat) "TouchShelf$Fault" "place" "I") ∈ lw_all := lw_g (lw_at lw_m3 76 rfl) rfl
theorem q658 : (Jvm.Cond.laysFinal "TouchShelf$Fault" "TouchShelf$Fault" "kind" "I") ∈ lw_all := lw_g (lw_at lw_m3 83 rfl) rfl
theorem q659 : (Jvm.Cond.soleField "TouchShelf$Fault" "kind") ∈ lw_all := lw_g (lw_at lw_m3 84 rfl) rfl
theorem q660 : (Jvm.Cond.laysFinal "TouchShelf$Fault" "TouchShelf$Fault" "place" "I") ∈ lw_all := lw_g (lw_at lw_m3 85 rfl) rfl
theorem q661 : (Jvm.Cond.soleField "TouchShelf$Fault" "place") ∈ lw_all := lw_g (lw_at lw_m3 86 rfl) rfl
theorem q666 : (Jvm.Cond.lays "TouchShelf$Fault" "java/lang/Throwable" "depth" "I") ∈ lw_all := lw_g (lw_at lw_m3 91 rfl) rfl
theorem q669 : (Jvm.Cond.superclass "TouchShelf$Fault" "java/lang/Exception") ∈ lw_all := lw_g (lw_at lw_m3 94 rfl) rfl
theorem q753 : (Jvm.Cond.selects "TouchShelf$Fault" ({ cls := "java/lang/Object", name := "getClass", desc := "()Ljava/lang/Class;" } : Jvm.MethodName) ({ cls := "java/lang/Object", name := "getClass", desc := "()Ljava/lang/Class;" } : Jvm.MethodName)) ∈ lw_all := lw_g (lw_at lw_m3 178 rfl) rfl
theorem q2292 : (Jvm.Cond.castable "TouchShelf$Fault" "java/lang/Object") ∈ lw_tbl := lw_at lw_m10 37 rfl
theorem in_X8 : ∀ w ∈ wsX80, w ∈ lw_all := lw_in wsX80 [613, 615, 617, 619, 621, 666, 658, 660] (by decide +kernel) (by decide +kernel)
theorem q123 : (Jvm.Cond.initialized "TouchShelf$Deed") ∈ lw_all := lw_g (lw_at lw_m1 28 rfl) rfl
theorem q700 : (Jvm.Cond.instantiable "TouchShelf$Deed" (4 : Nat)) ∈ lw_all := lw_g (lw_at lw_m3 125 rfl) rfl
theorem q702 : (Jvm.Cond.instanceMethod ({ cls := "TouchShelf$Deed", name := "<init>", desc := "(LTouchShelf$Doing;III)V" } : Jvm.MethodName)) ∈ lw_all := lw_g (lw_at lw_m3 127 rfl) rfl
theorem q703 : (Jvm.Cond.code ({ cls := "TouchShelf$Deed", name := "<init>", desc := "(LTouchShelf$Doing;III)V" } : Jvm.MethodName) prog_4_method_1_code (5 : Nat) (Option.none : Option Jvm.ClassFile.FieldType)) ∈ lw_all := lw_g (lw_at lw_m3 128 rfl) rfl
theorem q704 : (Jvm.Cond.methodLink "TouchShelf$Deed" (1 : Nat) ({ cls := "java/lang/Object", name := "<init>", desc := "()V" } : Jvm.MethodName)) ∈ lw_all := lw_g (lw_at lw_m3 129 rfl) rfl
theorem q705 : (Jvm.Cond.fieldLink "TouchShelf$Deed" (7 : Nat) "TouchShelf$Deed" "doing" "LTouchShelf$Doing;") ∈ lw_all := lw_g (lw_at lw_m3 130 rfl) rfl
theorem q707 : (Jvm.Cond.fieldLink "TouchShelf$Deed" (13 : Nat) "TouchShelf$Deed" "shelf" "I") ∈ lw_all := lw_g (lw_at lw_m3 132 rfl) rfl
theorem q709 : (Jvm.Cond.fieldLink "TouchShelf$Deed" (17 : Nat) "TouchShelf$Deed" "a" "I") ∈ lw_all := lw_g (lw_at lw_m3 134 rfl) rfl
theorem q711 : (Jvm.Cond.fieldLink "TouchShelf$Deed" (20 : Nat) "TouchShelf$Deed" "b" "I") ∈ lw_all := lw_g (lw_at lw_m3 136 rfl) rfl
theorem q713 : (Jvm.Cond.laysFinal "TouchShelf$Deed" "TouchShelf$Deed" "doing" "LTouchShelf$Doing;") ∈ lw_all := lw_g (lw_at lw_m3 138 rfl) rfl
theorem q714 : (Jvm.Cond.soleField "TouchShelf$Deed" "doing") ∈ lw_all := lw_g (lw_at lw_m3 139 rfl) rfl
theorem q715 : (Jvm.Cond.laysFinal "TouchShelf$Deed" "TouchShelf$Deed" "shelf" "I") ∈ lw_all := lw_g (lw_at lw_m3 140 rfl) rfl
theorem q716 : (Jvm.Cond.soleField "TouchShelf$Deed" "shelf") ∈ lw_all := lw_g (lw_at lw_m3 141 rfl) rfl
theorem q717 : (Jvm.Cond.laysFinal "TouchShelf$Deed" "TouchShelf$Deed" "a" "I") ∈ lw_all := lw_g (lw_at lw_m3 142 rfl) rfl
theorem q718 : (Jvm.Cond.soleField "TouchShelf$Deed" "a") ∈ lw_all := lw_g (lw_at lw_m3 143 rfl) rfl
theorem q719 : (Jvm.Cond.laysFinal "TouchShelf$Deed" "TouchShelf$Deed" "b" "I") ∈ lw_all := lw_g (lw_at lw_m3 144 rfl) rfl
theorem q720 : (Jvm.Cond.soleField "TouchShelf$Deed" "b") ∈ lw_all := lw_g (lw_at lw_m3 145 rfl) rfl
theorem q721 : (Jvm.Cond.superclass "TouchShelf$Deed" "java/lang/Object") ∈ lw_all := lw_g (lw_at lw_m3 146 rfl) rfl
theorem q750 : (Jvm.Cond.selects "TouchShelf$Deed" ({ cls := "java/lang/Object", name := "getClass", desc := "()Ljava/lang/Class;" } : Jvm.MethodName) ({ cls := "java/lang/Object", name := "getClass", desc := "()Ljava/lang/Class;" } : Jvm.MethodName)) ∈ lw_all := lw_g (lw_at lw_m3 175 rfl) rfl
theorem q1366 : (Jvm.Cond.instanceMethod ({ cls := "TouchShelf$Deed", name := "told", desc := "(I)I" } : Jvm.MethodName)) ∈ lw_all := lw_g (lw_at lw_m6 71 rfl) rfl
theorem q1367 : (Jvm.Cond.selects "TouchShelf$Deed" ({ cls := "TouchShelf$Deed", name := "told", desc := "(I)I" } : Jvm.MethodName) ({ cls := "TouchShelf$Deed", name := "told", desc := "(I)I" } : Jvm.MethodName)) ∈ lw_all := lw_g (lw_at lw_m6 72 rfl) rfl
theorem q1368 : (Jvm.Cond.code ({ cls := "TouchShelf$Deed", name := "told", desc := "(I)I" } : Jvm.MethodName) prog_4_method_2_code (2 : Nat) (Option.some Jvm.ClassFile.FieldType.int)) ∈ lw_all := lw_g (lw_at lw_m6 73 rfl) rfl
theorem q1369 : (Jvm.Cond.methodLink "TouchShelf$Deed" (23 : Nat) ({ cls := "TouchShelf$Doing", name := "ordinal", desc := "()I" } : Jvm.MethodName)) ∈ lw_all := lw_g (lw_at lw_m6 74 rfl) rfl
theorem q2300 : (Jvm.Cond.castable "TouchShelf$Deed" "java/lang/Object") ∈ lw_tbl := lw_at lw_m10 45 rfl
theorem in_X9 : ∀ w ∈ wsX90, w ∈ lw_all := lw_in wsX90 [713, 715, 717, 719] (by decide +kernel) (by decide +kernel)
theorem q95 : (Jvm.Cond.initialized "TouchShelfLaw") ∈ lw_all := lw_g (lw_at lw_m1 0 rfl) rfl
theorem q135 : (Jvm.Cond.classLink "TouchShelfLaw" (7 : Nat) "TouchShelf") ∈ lw_all := lw_g (lw_at lw_m1 40 rfl) rfl
theorem q137 : (Jvm.Cond.methodLink "TouchShelfLaw" (9 : Nat) ({ cls := "TouchShelf", name := "<init>", desc := "()V" } : Jvm.MethodName)) ∈ lw_all := lw_g (lw_at lw_m1 42 rfl) rfl
theorem q238 : (Jvm.Cond.methodLink "TouchShelfLaw" (13 : Nat) ({ cls := "TouchShelf", name := "feed", desc := "(IIIII)I" } : Jvm.MethodName)) ∈ lw_all := lw_g (lw_at lw_m1 143 rfl) rfl
theorem q242 : (Jvm.Cond.methodLink "TouchShelfLaw" (18 : Nat) ({ cls := "TouchShelf", name := "end", desc := "(I)I" } : Jvm.MethodName)) ∈ lw_all := lw_g (lw_at lw_m1 147 rfl) rfl
theorem q246 : (Jvm.Cond.methodLink "TouchShelfLaw" (23 : Nat) ({ cls := "TouchShelf", name := "text", desc := "(II)I" } : Jvm.MethodName)) ∈ lw_all := lw_g (lw_at lw_m1 151 rfl) rfl
theorem q1030 : (Jvm.Cond.methodLink "TouchShelfLaw" (28 : Nat) ({ cls := "TouchShelf", name := "fault", desc := "(I)I" } : Jvm.MethodName)) ∈ lw_all := lw_g (lw_at lw_m4 215 rfl) rfl
theorem q1034 : (Jvm.Cond.methodLink "TouchShelfLaw" (32 : Nat) ({ cls := "TouchShelf", name := "library", desc := "(II)I" } : Jvm.MethodName)) ∈ lw_all := lw_g (lw_at lw_m4 219 rfl) rfl
theorem q1082 : (Jvm.Cond.methodLink "TouchShelfLaw" (36 : Nat) ({ cls := "TouchShelf", name := "shelf", desc := "(III)I" } : Jvm.MethodName)) ∈ lw_all := lw_g (lw_at lw_m5 27 rfl) rfl
theorem q1210 : (Jvm.Cond.methodLink "TouchShelfLaw" (41 : Nat) ({ cls := "TouchShelf", name := "place", desc := "(III)I" } : Jvm.MethodName)) ∈ lw_all := lw_g (lw_at lw_m5 155 rfl) rfl
theorem q1223 : (Jvm.Cond.methodLink "TouchShelfLaw" (45 : Nat) ({ cls := "TouchShelf", name := "off", desc := "(IIIZ)I" } : Jvm.MethodName)) ∈ lw_all := lw_g (lw_at lw_m5 168 rfl) rfl
theorem q1236 : (Jvm.Cond.methodLink "TouchShelfLaw" (50 : Nat) ({ cls := "TouchShelf", name := "readings", desc := "(III)J" } : Jvm.MethodName)) ∈ lw_all := lw_g (lw_at lw_m5 181 rfl) rfl
theorem q1250 : (Jvm.Cond.methodLink "TouchShelfLaw" (55 : Nat) ({ cls := "TouchShelf", name := "between", desc := "(IIII)J" } : Jvm.MethodName)) ∈ lw_all := lw_g (lw_at lw_m5 195 rfl) rfl
theorem q1254 : (Jvm.Cond.methodLink "TouchShelfLaw" (60 : Nat) ({ cls := "TouchShelf", name := "fresh", desc := "(II)I" } : Jvm.MethodName)) ∈ lw_all := lw_g (lw_at lw_m5 199 rfl) rfl
theorem q1259 : (Jvm.Cond.methodLink "TouchShelfLaw" (64 : Nat) ({ cls := "TouchShelf", name := "set", desc := "(IIZI)I" } : Jvm.MethodName)) ∈ lw_all := lw_g (lw_at lw_m5 204 rfl) rfl
theorem q1284 : (Jvm.Cond.methodLink "TouchShelfLaw" (124 : Nat) ({ cls := "TouchShelf", name := "pairs", desc := "(II)I" } : Jvm.MethodName)) ∈ lw_all := lw_g (lw_at lw_m5 229 rfl) rfl
theorem q1288 : (Jvm.Cond.methodLink "TouchShelfLaw" (128 : Nat) ({ cls := "TouchShelf", name := "tells", desc := "(I)I" } : Jvm.MethodName)) ∈ lw_all := lw_g (lw_at lw_m5 233 rfl) rfl
theorem q1292 : (Jvm.Cond.methodLink "TouchShelfLaw" (132 : Nat) ({ cls := "TouchShelf", name := "nearest", desc := "(III)I" } : Jvm.MethodName)) ∈ lw_all := lw_g (lw_at lw_m5 237 rfl) rfl
theorem q1298 : (Jvm.Cond.methodLink "TouchShelfLaw" (69 : Nat) ({ cls := "TouchShelf", name := "walk", desc := "(IIII)I" } : Jvm.MethodName)) ∈ lw_all := lw_g (lw_at lw_m6 3 rfl) rfl
theorem q1302 : (Jvm.Cond.methodLink "TouchShelfLaw" (74 : Nat) ({ cls := "TouchShelf", name := "halving", desc := "(IIIZ)I" } : Jvm.MethodName)) ∈ lw_all := lw_g (lw_at lw_m6 7 rfl) rfl
theorem q1310 : (Jvm.Cond.methodLink "TouchShelfLaw" (120 : Nat) ({ cls := "TouchShelf", name := "hardest", desc := "(III)I" } : Jvm.MethodName)) ∈ lw_all := lw_g (lw_at lw_m6 15 rfl) rfl
theorem q1320 : (Jvm.Cond.methodLink "TouchShelfLaw" (78 : Nat) ({ cls := "TouchShelf", name := "mean", desc := "(IIZ)I" } : Jvm.MethodName)) ∈ lw_all := lw_g (lw_at lw_m6 25 rfl) rfl
theorem q1337 : (Jvm.Cond.methodLink "TouchShelfLaw" (83 : Nat) ({ cls := "TouchShelf", name := "best", desc := "(II)I" } : Jvm.MethodName)) ∈ lw_all := lw_g (lw_at lw_m6 42 rfl) rfl
theorem q1341 : (Jvm.Cond.methodLink "TouchShelfLaw" (116 : Nat) ({ cls := "TouchShelf", name := "insert", desc := "(III)I" } : Jvm.MethodName)) ∈ lw_all := lw_g (lw_at lw_m6 46 rfl) rfl
theorem q1353 : (Jvm.Cond.methodLink "TouchShelfLaw" (136 : Nat) ({ cls := "TouchShelf", name := "swaps", desc := "(III)I" } : Jvm.MethodName)) ∈ lw_all := lw_g (lw_at lw_m6 58 rfl) rfl
theorem q1359 : (Jvm.Cond.methodLink "TouchShelfLaw" (87 : Nat) ({ cls := "TouchShelf", name := "deed", desc := "(III)I" } : Jvm.MethodName)) ∈ lw_all := lw_g (lw_at lw_m6 64 rfl) rfl
theorem q1375 : (Jvm.Cond.methodLink "TouchShelfLaw" (91 : Nat) ({ cls := "TouchShelf", name := "stop", desc := "(II)I" } : Jvm.MethodName)) ∈ lw_all := lw_g (lw_at lw_m6 80 rfl) rfl
theorem q1471 : (Jvm.Cond.methodLink "TouchShelfLaw" (95 : Nat) ({ cls := "TouchShelf", name := "lies", desc := "(IIIII)I" } : Jvm.MethodName)) ∈ lw_all := lw_g (lw_at lw_m6 176 rfl) rfl
theorem q1479 : (Jvm.Cond.methodLink "TouchShelfLaw" (99 : Nat) ({ cls := "TouchShelf", name := "state", desc := "(IIII)J" } : Jvm.MethodName)) ∈ lw_all := lw_g (lw_at lw_m6 184 rfl) rfl
theorem q1499 : (Jvm.Cond.methodLink "TouchShelfLaw" (103 : Nat) ({ cls := "TouchShelf", name := "may", desc := "(IIIIIZ)J" } : Jvm.MethodName)) ∈ lw_all := lw_g (lw_at lw_m6 204 rfl) rfl
theorem q1503 : (Jvm.Cond.methodLink "TouchShelfLaw" (140 : Nat) ({ cls := "TouchShelf", name := "hands", desc := "(III)I" } : Jvm.MethodName)) ∈ lw_all := lw_g (lw_at lw_m6 208 rfl) rfl
theorem q1507 : (Jvm.Cond.methodLink "TouchShelfLaw" (108 : Nat) ({ cls := "TouchShelf", name := "round", desc := "(II)I" } : Jvm.MethodName)) ∈ lw_all := lw_g (lw_at lw_m6 212 rfl) rfl
theorem q1557 : (Jvm.Cond.methodLink "TouchShelfLaw" (112 : Nat) ({ cls := "TouchShelf", name := "drawn", desc := "(IIIII)I" } : Jvm.MethodName)) ∈ lw_all := lw_g (lw_at lw_m7 22 rfl) rfl
theorem q1579 : (Jvm.Cond.methodLink "TouchShelfLaw" (144 : Nat) ({ cls := "TouchShelf", name := "count", desc := "(I)I" } : Jvm.MethodName)) ∈ lw_all := lw_g (lw_at lw_m7 44 rfl) rfl
theorem q1583 : (Jvm.Cond.methodLink "TouchShelfLaw" (148 : Nat) ({ cls := "TouchShelf", name := "image", desc := "(I)Z" } : Jvm.MethodName)) ∈ lw_all := lw_g (lw_at lw_m7 48 rfl) rfl
theorem q1611 : (Jvm.Cond.methodLink "TouchShelfLaw" (153 : Nat) ({ cls := "TouchShelf", name := "again", desc := "(I)Z" } : Jvm.MethodName)) ∈ lw_all := lw_g (lw_at lw_m7 76 rfl) rfl
theorem q1615 : (Jvm.Cond.classLink "TouchShelfLaw" (10 : Nat) "TouchShelfModel") ∈ lw_all := lw_g (lw_at lw_m7 80 rfl) rfl
theorem q1617 : (Jvm.Cond.methodLink "TouchShelfLaw" (12 : Nat) ({ cls := "TouchShelfModel", name := "<init>", desc := "()V" } : Jvm.MethodName)) ∈ lw_all := lw_g (lw_at lw_m7 82 rfl) rfl
theorem q1811 : (Jvm.Cond.methodLink "TouchShelfLaw" (17 : Nat) ({ cls := "TouchShelfModel", name := "feed", desc := "(IIIII)I" } : Jvm.MethodName)) ∈ lw_all := lw_g (lw_at lw_m8 36 rfl) rfl
theorem q1819 : (Jvm.Cond.methodLink "TouchShelfLaw" (22 : Nat) ({ cls := "TouchShelfModel", name := "end", desc := "(I)I" } : Jvm.MethodName)) ∈ lw_all := lw_g (lw_at lw_m8 44 rfl) rfl
theorem q1826 : (Jvm.Cond.methodLink "TouchShelfLaw" (27 : Nat) ({ cls := "TouchShelfModel", name := "text", desc := "(II)I" } : Jvm.MethodName)) ∈ lw_all := lw_g (lw_at lw_m8 51 rfl) rfl
theorem q1896 : (Jvm.Cond.methodLink "TouchShelfLaw" (31 : Nat) ({ cls := "TouchShelfModel", name := "fault", desc := "(I)I" } : Jvm.MethodName)) ∈ lw_all := lw_g (lw_at lw_m8 121 rfl) rfl
theorem q1900 : (Jvm.Cond.methodLink "TouchShelfLaw" (35 : Nat) ({ cls := "TouchShelfModel", name := "library", desc := "(II)I" } : Jvm.MethodName)) ∈ lw_all := lw_g (lw_at lw_m8 125 rfl) rfl
theorem q1937 : (Jvm.Cond.methodLink "TouchShelfLaw" (40 : Nat) ({ cls := "TouchShelfModel", name := "shelf", desc := "(III)I" } : Jvm.MethodName)) ∈ lw_all := lw_g (lw_at lw_m8 162 rfl) rfl
theorem q2006 : (Jvm.Cond.methodLink "TouchShelfLaw" (44 : Nat) ({ cls := "TouchShelfModel", name := "place", desc := "(III)I" } : Jvm.MethodName)) ∈ lw_all := lw_g (lw_at lw_m8 231 rfl) rfl
theorem q2014 : (Jvm.Cond.methodLink "TouchShelfLaw" (49 : Nat) ({ cls := "TouchShelfModel", name := "off", desc := "(IIIZ)I" } : Jvm.MethodName)) ∈ lw_all := lw_g (lw_at lw_m8 239 rfl) rfl
theorem q2022 : (Jvm.Cond.methodLink "TouchShelfLaw" (54 : Nat) ({ cls := "TouchShelfModel", name := "readings", desc := "(III)J" } : Jvm.MethodName)) ∈ lw_all := lw_g (lw_at lw_m9 7 rfl) rfl
theorem q2035 : (Jvm.Cond.methodLink "TouchShelfLaw" (59 : Nat) ({ cls := "TouchShelfModel", name := "between", desc := "(IIII)J" } : Jvm.MethodName)) ∈ lw_all := lw_g (lw_at lw_m9 20 rfl) rfl
theorem q2039 : (Jvm.Cond.methodLink "TouchShelfLaw" (63 : Nat) ({ cls := "TouchShelfModel", name := "fresh", desc := "(II)I" } : Jvm.MethodName)) ∈ lw_all := lw_g (lw_at lw_m9 24 rfl) rfl
theorem q2047 : (Jvm.Cond.methodLink "TouchShelfLaw" (68 : Nat) ({ cls := "TouchShelfModel", name := "set", desc := "(IIZI)I" } : Jvm.MethodName)) ∈ lw_all := lw_g (lw_at lw_m9 32 rfl) rfl
theorem q2058 : (Jvm.Cond.methodLink "TouchShelfLaw" (73 : Nat) ({ cls := "TouchShelfModel", name := "walk", desc := "(IIII)I" } : Jvm.MethodName)) ∈ lw_all := lw_g (lw_at lw_m9 43 rfl) rfl
theorem q2062 : (Jvm.Cond.methodLink "TouchShelfLaw" (77 : Nat) ({ cls := "TouchShelfModel", name := "halving", desc := "(IIIZ)I" } : Jvm.MethodName)) ∈ lw_all := lw_g (lw_at lw_m9 47 rfl) rfl
theorem q2066 : (Jvm.Cond.methodLink "TouchShelfLaw" (82 : Nat) ({ cls := "TouchShelfModel", name := "mean", desc := "(IIZ)I" } : Jvm.MethodName)) ∈ lw_all := lw_g (lw_at lw_m9 51 rfl) rfl
theorem q2085 : (Jvm.Cond.methodLink "TouchShelfLaw" (86 : Nat) ({ cls := "TouchShelfModel", name := "best", desc := "(II)I" } : Jvm.MethodName)) ∈ lw_all := lw_g (lw_at lw_m9 70 rfl) rfl
theorem q2089 : (Jvm.Cond.methodLink "TouchShelfLaw" (90 : Nat) ({ cls := "TouchShelfModel", name := "deed", desc := "(III)I" } : Jvm.MethodName)) ∈ lw_all := lw_g (lw_at lw_m9 74 rfl) rfl
theorem q2101 : (Jvm.Cond.methodLink "TouchShelfLaw" (94 : Nat) ({ cls := "TouchShelfModel", name := "stop", desc := "(II)I" } : Jvm.MethodName)) ∈ lw_all := lw_g (lw_at lw_m9 86 rfl) rfl
theorem q2125 : (Jvm.Cond.methodLink "TouchShelfLaw" (98 : Nat) ({ cls := "TouchShelfModel", name := "lies", desc := "(IIIII)I" } : Jvm.MethodName)) ∈ lw_all := lw_g (lw_at lw_m9 110 rfl) rfl
theorem q2133 : (Jvm.Cond.methodLink "TouchShelfLaw" (102 : Nat) ({ cls := "TouchShelfModel", name := "state", desc := "(IIII)J" } : Jvm.MethodName)) ∈ lw_all := lw_g (lw_at lw_m9 118 rfl) rfl
theorem q2154 : (Jvm.Cond.methodLink "TouchShelfLaw" (107 : Nat) ({ cls := "TouchShelfModel", name := "may", desc := "(IIIIIZ)J" } : Jvm.MethodName)) ∈ lw_all := lw_g (lw_at lw_m9 139 rfl) rfl
theorem q2158 : (Jvm.Cond.methodLink "TouchShelfLaw" (111 : Nat) ({ cls := "TouchShelfModel", name := "round", desc := "(II)I" } : Jvm.MethodName)) ∈ lw_all := lw_g (lw_at lw_m9 143 rfl) rfl
theorem q2191 : (Jvm.Cond.methodLink "TouchShelfLaw" (115 : Nat) ({ cls := "TouchShelfModel", name := "drawn", desc := "(IIIII)I" } : Jvm.MethodName)) ∈ lw_all := lw_g (lw_at lw_m9 176 rfl) rfl
theorem q2200 : (Jvm.Cond.methodLink "TouchShelfLaw" (119 : Nat) ({ cls := "TouchShelfModel", name := "insert", desc := "(III)I" } : Jvm.MethodName)) ∈ lw_all := lw_g (lw_at lw_m9 185 rfl) rfl
theorem q2204 : (Jvm.Cond.methodLink "TouchShelfLaw" (123 : Nat) ({ cls := "TouchShelfModel", name := "hardest", desc := "(III)I" } : Jvm.MethodName)) ∈ lw_all := lw_g (lw_at lw_m9 189 rfl) rfl
theorem q2213 : (Jvm.Cond.methodLink "TouchShelfLaw" (127 : Nat) ({ cls := "TouchShelfModel", name := "pairs", desc := "(II)I" } : Jvm.MethodName)) ∈ lw_all := lw_g (lw_at lw_m9 198 rfl) rfl
theorem q2217 : (Jvm.Cond.methodLink "TouchShelfLaw" (131 : Nat) ({ cls := "TouchShelfModel", name := "tells", desc := "(I)I" } : Jvm.MethodName)) ∈ lw_all := lw_g (lw_at lw_m9 202 rfl) rfl
theorem q2225 : (Jvm.Cond.methodLink "TouchShelfLaw" (135 : Nat) ({ cls := "TouchShelfModel", name := "nearest", desc := "(III)I" } : Jvm.MethodName)) ∈ lw_all := lw_g (lw_at lw_m9 210 rfl) rfl
theorem q2229 : (Jvm.Cond.methodLink "TouchShelfLaw" (139 : Nat) ({ cls := "TouchShelfModel", name := "swaps", desc := "(III)I" } : Jvm.MethodName)) ∈ lw_all := lw_g (lw_at lw_m9 214 rfl) rfl
theorem q2237 : (Jvm.Cond.methodLink "TouchShelfLaw" (143 : Nat) ({ cls := "TouchShelfModel", name := "hands", desc := "(III)I" } : Jvm.MethodName)) ∈ lw_all := lw_g (lw_at lw_m9 222 rfl) rfl
theorem q2241 : (Jvm.Cond.methodLink "TouchShelfLaw" (147 : Nat) ({ cls := "TouchShelfModel", name := "count", desc := "(I)I" } : Jvm.MethodName)) ∈ lw_all := lw_g (lw_at lw_m9 226 rfl) rfl
theorem q2245 : (Jvm.Cond.methodLink "TouchShelfLaw" (152 : Nat) ({ cls := "TouchShelfModel", name := "image", desc := "(I)Z" } : Jvm.MethodName)) ∈ lw_all := lw_g (lw_at lw_m9 230 rfl) rfl
theorem q2256 : (Jvm.Cond.methodLink "TouchShelfLaw" (156 : Nat) ({ cls := "TouchShelfModel", name := "again", desc := "(I)Z" } : Jvm.MethodName)) ∈ lw_all := lw_g (lw_at lw_m10 1 rfl) rfl
theorem q122 : (Jvm.Cond.initialized "TouchShelf$Doing") ∈ lw_all := lw_g (lw_at lw_m1 27 rfl) rfl
theorem q689 : (Jvm.Cond.laysStatic "TouchShelf$Doing" "TAKE" "LTouchShelf$Doing;") ∈ lw_tbl := lw_at lw_m3 114 rfl
theorem q691 : (Jvm.Cond.laysStatic "TouchShelf$Doing" "SLIDE" "LTouchShelf$Doing;") ∈ lw_tbl := lw_at lw_m3 116 rfl
theorem q752 : (Jvm.Cond.selects "TouchShelf$Doing" ({ cls := "java/lang/Object", name := "getClass", desc := "()Ljava/lang/Class;" } : Jvm.MethodName) ({ cls := "java/lang/Object", name := "getClass", desc := "()Ljava/lang/Class;" } : Jvm.MethodName)) ∈ lw_all := lw_g (lw_at lw_m3 177 rfl) rfl
theorem q1370 : (Jvm.Cond.sameMethod "TouchShelf$Doing" "java/lang/Enum" "ordinal" "()I") ∈ lw_all := lw_g (lw_at lw_m6 75 rfl) rfl
theorem q1372 : (Jvm.Cond.selects "TouchShelf$Doing" ({ cls := "TouchShelf$Doing", name := "ordinal", desc := "()I" } : Jvm.MethodName) ({ cls := "java/lang/Enum", name := "ordinal", desc := "()I" } : Jvm.MethodName)) ∈ lw_all := lw_g (lw_at lw_m6 77 rfl) rfl
theorem q2283 : (Jvm.Cond.castable "TouchShelf$Doing" "java/lang/Object") ∈ lw_tbl := lw_at lw_m10 28 rfl
theorem q2321 : (Jvm.Cond.laysStatic "TouchShelf$Doing" "PUT" "LTouchShelf$Doing;") ∈ lw_tbl := lw_at lw_m10 66 rfl
theorem q2322 : (Jvm.Cond.laysStatic "TouchShelf$Doing" "FEEL" "LTouchShelf$Doing;") ∈ lw_tbl := lw_at lw_m10 67 rfl
theorem q106 : (Jvm.Cond.initialized "TouchShelf$Token") ∈ lw_all := lw_g (lw_at lw_m1 11 rfl) rfl
theorem q291 : (Jvm.Cond.laysStatic "TouchShelf$Token" "END" "LTouchShelf$Token;") ∈ lw_tbl := lw_at lw_m1 196 rfl
theorem q483 : (Jvm.Cond.laysStatic "TouchShelf$Token" "WORD" "LTouchShelf$Token;") ∈ lw_tbl := lw_at lw_m2 148 rfl
theorem q488 : (Jvm.Cond.laysStatic "TouchShelf$Token" "BAD" "LTouchShelf$Token;") ∈ lw_tbl := lw_at lw_m2 153 rfl
theorem q490 : (Jvm.Cond.laysStatic "TouchShelf$Token" "NUMBER" "LTouchShelf$Token;") ∈ lw_tbl := lw_at lw_m2 155 rfl
theorem q492 : (Jvm.Cond.laysStatic "TouchShelf$Token" "SIGN" "LTouchShelf$Token;") ∈ lw_tbl := lw_at lw_m2 157 rfl
theorem q494 : (Jvm.Cond.laysStatic "TouchShelf$Token" "MINUS" "LTouchShelf$Token;") ∈ lw_tbl := lw_at lw_m2 159 rfl
theorem q762 : (Jvm.Cond.selects "TouchShelf$Token" ({ cls := "java/lang/Object", name := "getClass", desc := "()Ljava/lang/Class;" } : Jvm.MethodName) ({ cls := "java/lang/Object", name := "getClass", desc := "()Ljava/lang/Class;" } : Jvm.MethodName)) ∈ lw_all := lw_g (lw_at lw_m3 187 rfl) rfl
theorem q2289 : (Jvm.Cond.castable "TouchShelf$Token" "java/lang/Object") ∈ lw_tbl := lw_at lw_m10 34 rfl
theorem q363 : (Jvm.Cond.sameMethod "[B" "java/lang/Object" "clone" "()Ljava/lang/Object;") ∈ lw_all := lw_g (lw_at lw_m2 28 rfl) rfl
theorem q366 : (Jvm.Cond.selects "[B" ({ cls := "[B", name := "clone", desc := "()Ljava/lang/Object;" } : Jvm.MethodName) ({ cls := "java/lang/Object", name := "clone", desc := "()Ljava/lang/Object;" } : Jvm.MethodName)) ∈ lw_all := lw_g (lw_at lw_m2 31 rfl) rfl
theorem q367 : (Jvm.Cond.castable "[B" "java/lang/Cloneable") ∈ lw_tbl := lw_at lw_m2 32 rfl
theorem q2307 : (Jvm.Cond.castable "[B" "java/lang/Object") ∈ lw_tbl := lw_at lw_m10 52 rfl
theorem q819 : (Jvm.Cond.sameMethod "[I" "java/lang/Object" "clone" "()Ljava/lang/Object;") ∈ lw_all := lw_g (lw_at lw_m4 4 rfl) rfl
theorem q820 : (Jvm.Cond.selects "[I" ({ cls := "[I", name := "clone", desc := "()Ljava/lang/Object;" } : Jvm.MethodName) ({ cls := "java/lang/Object", name := "clone", desc := "()Ljava/lang/Object;" } : Jvm.MethodName)) ∈ lw_all := lw_g (lw_at lw_m4 5 rfl) rfl
theorem q821 : (Jvm.Cond.castable "[I" "java/lang/Cloneable") ∈ lw_tbl := lw_at lw_m4 6 rfl
theorem q2309 : (Jvm.Cond.castable "[I" "java/lang/Object") ∈ lw_tbl := lw_at lw_m10 54 rfl
theorem q2310 : (Jvm.Cond.castable "[J" "java/lang/Object") ∈ lw_tbl := lw_at lw_m10 55 rfl
theorem q2314 : (Jvm.Cond.castable "[LTouchShelf$Doing;" "java/lang/Object") ∈ lw_tbl := lw_at lw_m10 59 rfl
theorem q2308 : (Jvm.Cond.castable "[LTouchShelf$State;" "java/lang/Object") ∈ lw_tbl := lw_at lw_m10 53 rfl
theorem q2303 : (Jvm.Cond.sameMethod "[Ljava/lang/Object;" "java/lang/Object" "getClass" "()Ljava/lang/Class;") ∈ lw_all := lw_g (lw_at lw_m10 48 rfl) rfl
theorem q2304 : (Jvm.Cond.selects "[Ljava/lang/Object;" ({ cls := "java/lang/Object", name := "getClass", desc := "()Ljava/lang/Class;" } : Jvm.MethodName) ({ cls := "java/lang/Object", name := "getClass", desc := "()Ljava/lang/Class;" } : Jvm.MethodName)) ∈ lw_all := lw_g (lw_at lw_m10 49 rfl) rfl
theorem q2306 : (Jvm.Cond.castable "[Ljava/lang/Object;" "java/lang/Object") ∈ lw_tbl := lw_at lw_m10 51 rfl
theorem q2313 : (Jvm.Cond.castable "[Ljava/lang/String;" "java/lang/Object") ∈ lw_tbl := lw_at lw_m10 58 rfl
theorem q2312 : (Jvm.Cond.castable "[Z" "java/lang/Object") ∈ lw_tbl := lw_at lw_m10 57 rfl
theorem q2311 : (Jvm.Cond.castable "[[I" "java/lang/Object") ∈ lw_tbl := lw_at lw_m10 56 rfl
theorem q128 : (Jvm.Cond.initialized "java/lang/Integer$IntegerCache") ∈ lw_all := lw_g (lw_at lw_m1 33 rfl) rfl
theorem q891 : (Jvm.Cond.laysStatic "java/lang/Integer$IntegerCache" "high" "I") ∈ lw_tbl := lw_at lw_m4 76 rfl
theorem q893 : (Jvm.Cond.laysStatic "java/lang/Integer$IntegerCache" "cache" "[Ljava/lang/Integer;") ∈ lw_tbl := lw_at lw_m4 78 rfl
theorem q114 : (Jvm.Cond.initialized "java/lang/System") ∈ lw_all := lw_g (lw_at lw_m1 19 rfl) rfl
theorem q373 : (Jvm.Cond.static ({ cls := "java/lang/System", name := "arraycopy", desc := "(Ljava/lang/Object;ILjava/lang/Object;II)V" } : Jvm.MethodName)) ∈ lw_all := lw_g (lw_at lw_m2 38 rfl) rfl
theorem q374 : (Jvm.Cond.native ({ cls := "java/lang/System", name := "arraycopy", desc := "(Ljava/lang/Object;ILjava/lang/Object;II)V" } : Jvm.MethodName)) ∈ lw_all := lw_g (lw_at lw_m2 39 rfl) rfl
theorem q1602 : (Jvm.Cond.interfaceMethod "java/util/Collection" "java/util/Collection" "toArray" "()[Ljava/lang/Object;") ∈ lw_tbl := lw_at lw_m7 67 rfl
theorem q1603 : (Jvm.Cond.declares ({ cls := "java/util/Collection", name := "toArray", desc := "()[Ljava/lang/Object;" } : Jvm.MethodName)) ∈ lw_tbl := lw_at lw_m7 68 rfl
theorem q162 : (Jvm.Cond.arrayOver (Jvm.ClassFile.FieldType.object "java/lang/Object")) ∈ lw_tbl := lw_at lw_m1 67 rfl
theorem q177 : (Jvm.Cond.arrayClass Jvm.ClassFile.FieldType.byte) ∈ lw_all := lw_g (lw_at lw_m1 82 rfl) rfl
theorem q207 : (Jvm.Cond.arrayOver (Jvm.ClassFile.FieldType.object "TouchShelf$State")) ∈ lw_tbl := lw_at lw_m1 112 rfl
theorem q224 : (Jvm.Cond.arrayClass Jvm.ClassFile.FieldType.int) ∈ lw_all := lw_g (lw_at lw_m1 129 rfl) rfl
theorem q1127 : (Jvm.Cond.arrayClass Jvm.ClassFile.FieldType.long) ∈ lw_all := lw_g (lw_at lw_m5 72 rfl) rfl
theorem q1395 : (Jvm.Cond.arrayOver (Jvm.ClassFile.FieldType.array Jvm.ClassFile.FieldType.int)) ∈ lw_tbl := lw_at lw_m6 100 rfl
theorem q1810 : (Jvm.Cond.arrayClass Jvm.ClassFile.FieldType.boolean) ∈ lw_all := lw_g (lw_at lw_m8 35 rfl) rfl
theorem q2320 : (Jvm.Cond.arrayOver (Jvm.ClassFile.FieldType.object "java/lang/String")) ∈ lw_tbl := lw_at lw_m10 65 rfl
