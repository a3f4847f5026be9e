set_option maxRecDepth 100000
def RJ0 : String := "java/lang/Throwable"
def TJ0 : u_T := fun k => match k with
  | 0 => ("java/lang/Throwable", "cause", "Ljava/lang/Throwable;", false)
  | 1 => ("java/lang/Throwable", "stackTrace", "[Ljava/lang/StackTraceElement;", false)
  | 2 => ("java/lang/Throwable", "suppressedExceptions", "Ljava/util/List;", false)
  | 3 => ("java/lang/Throwable", "detailMessage", "Ljava/lang/String;", false)
  | _ => ("java/lang/Throwable", "backtrace", "Ljava/lang/Object;", false)
def tyJ0 : Nat → FieldType := fun k => match k with
  | 0 => .object "java/lang/Throwable"
  | 1 => .array (.object "java/lang/StackTraceElement")
  | 2 => .object "java/util/List"
  | 3 => .object "java/lang/String"
  | _ => .object "java/lang/Object"
abbrev wsJ00 : List Cond := u_ws RJ0 TJ0 5
theorem nmJ0 : ∀ a, a < 5 → ∀ b, b < 5 → a ≠ b → (TJ0 a).2.1 ≠ (TJ0 b).2.1 := by decide +kernel
theorem tyJ0_ok : ∀ k, k < 5 → parseFieldDescriptor (TJ0 k).2.2.1 = some (tyJ0 k) := by decide +kernel
abbrev cJ0_init : ByteArray := prog_20_method_1_code
def yJ0_init : MethodName := ⟨RJ0, "<init>", "()V"⟩
abbrev cJ0_init_2 : ByteArray := prog_20_method_5_code
def yJ0_init_2 : MethodName := ⟨RJ0, "<init>", "(Ljava/lang/String;Ljava/lang/Throwable;ZZ)V"⟩
abbrev cJ0_init_3 : ByteArray := prog_20_method_2_code
def yJ0_init_3 : MethodName := ⟨RJ0, "<init>", "(Ljava/lang/String;)V"⟩
def RJ1 : String := "java/lang/Exception"
abbrev cJ1_init : ByteArray := prog_10_method_5_code
def yJ1_init : MethodName := ⟨RJ1, "<init>", "(Ljava/lang/String;Ljava/lang/Throwable;ZZ)V"⟩
abbrev cJ1_init_2 : ByteArray := prog_10_method_1_code
def yJ1_init_2 : MethodName := ⟨RJ1, "<init>", "()V"⟩
abbrev cJ1_init_3 : ByteArray := prog_10_method_2_code
def yJ1_init_3 : MethodName := ⟨RJ1, "<init>", "(Ljava/lang/String;)V"⟩
def RJ10 : String := "java/util/NoSuchElementException"
def TJ10 : u_T := fun k => match k with
  | 0 => ("java/lang/Throwable", "cause", "Ljava/lang/Throwable;", false)
  | 1 => ("java/lang/Throwable", "stackTrace", "[Ljava/lang/StackTraceElement;", false)
  | 2 => ("java/lang/Throwable", "suppressedExceptions", "Ljava/util/List;", false)
  | 3 => ("java/lang/Throwable", "detailMessage", "Ljava/lang/String;", false)
  | 4 => ("java/lang/Throwable", "backtrace", "Ljava/lang/Object;", false)
  | _ => ("java/lang/Throwable", "depth", "I", false)
def tyJ10 : Nat → FieldType := fun k => match k with
  | 0 => .object "java/lang/Throwable"
  | 1 => .array (.object "java/lang/StackTraceElement")
  | 2 => .object "java/util/List"
  | 3 => .object "java/lang/String"
  | 4 => .object "java/lang/Object"
  | _ => .int
abbrev wsJ100 : List Cond := u_ws RJ10 TJ10 6
theorem nmJ10 : ∀ a, a < 6 → ∀ b, b < 6 → a ≠ b → (TJ10 a).2.1 ≠ (TJ10 b).2.1 := by decide +kernel
theorem tyJ10_ok : ∀ k, k < 6 → parseFieldDescriptor (TJ10 k).2.2.1 = some (tyJ10 k) := by decide +kernel
abbrev cJ10_init : ByteArray := prog_22_method_1_code
def yJ10_init : MethodName := ⟨RJ10, "<init>", "()V"⟩
def RJ11 : String := "java/lang/StringLatin1"
abbrev cJ11_charAt : ByteArray := prog_17_method_2_code
def yJ11_charAt : MethodName := ⟨RJ11, "charAt", "([BI)C"⟩
def RJ12 : String := "jdk/internal/util/Preconditions"
abbrev cJ12_checkIndex : ByteArray := prog_23_method_11_code
def yJ12_checkIndex : MethodName := ⟨RJ12, "checkIndex", "(IILjava/util/function/BiFunction;)I"⟩
def RJ13 : String := "java/lang/StringUTF16"
abbrev cJ13_charAt : ByteArray := prog_18_method_83_code
def yJ13_charAt : MethodName := ⟨RJ13, "charAt", "([BI)C"⟩
abbrev cJ13_checkIndex : ByteArray := prog_18_method_91_code
def yJ13_checkIndex : MethodName := ⟨RJ13, "checkIndex", "(I[B)V"⟩
abbrev cJ13_length : ByteArray := prog_18_method_6_code
def yJ13_length : MethodName := ⟨RJ13, "length", "([B)I"⟩
abbrev cJ13_getChar : ByteArray := prog_18_method_5_code
def yJ13_getChar : MethodName := ⟨RJ13, "getChar", "([BI)C"⟩
def RJ14 : String := "java/lang/Object"
abbrev cJ14_init : ByteArray := object_method_1_code
def yJ14_init : MethodName := ⟨RJ14, "<init>", "()V"⟩
def RJ2 : String := "java/lang/RuntimeException"
abbrev cJ2_init : ByteArray := prog_15_method_5_code
def yJ2_init : MethodName := ⟨RJ2, "<init>", "(Ljava/lang/String;Ljava/lang/Throwable;ZZ)V"⟩
abbrev cJ2_init_2 : ByteArray := prog_15_method_1_code
def yJ2_init_2 : MethodName := ⟨RJ2, "<init>", "()V"⟩
abbrev cJ2_init_3 : ByteArray := prog_15_method_2_code
def yJ2_init_3 : MethodName := ⟨RJ2, "<init>", "(Ljava/lang/String;)V"⟩
def RJ3 : String := "java/lang/IllegalArgumentException"
def TJ3 : u_T := fun k => match k with
  | 0 => ("java/lang/Throwable", "cause", "Ljava/lang/Throwable;", false)
  | 1 => ("java/lang/Throwable", "stackTrace", "[Ljava/lang/StackTraceElement;", false)
  | 2 => ("java/lang/Throwable", "suppressedExceptions", "Ljava/util/List;", false)
  | 3 => ("java/lang/Throwable", "detailMessage", "Ljava/lang/String;", false)
  | 4 => ("java/lang/Throwable", "backtrace", "Ljava/lang/Object;", false)
  | _ => ("java/lang/Throwable", "depth", "I", false)
def tyJ3 : Nat → FieldType := fun k => match k with
  | 0 => .object "java/lang/Throwable"
  | 1 => .array (.object "java/lang/StackTraceElement")
  | 2 => .object "java/util/List"
  | 3 => .object "java/lang/String"
  | 4 => .object "java/lang/Object"
  | _ => .int
abbrev wsJ30 : List Cond := u_ws RJ3 TJ3 6
theorem nmJ3 : ∀ a, a < 6 → ∀ b, b < 6 → a ≠ b → (TJ3 a).2.1 ≠ (TJ3 b).2.1 := by decide +kernel
theorem tyJ3_ok : ∀ k, k < 6 → parseFieldDescriptor (TJ3 k).2.2.1 = some (tyJ3 k) := by decide +kernel
abbrev cJ3_init : ByteArray := prog_11_method_1_code
def yJ3_init : MethodName := ⟨RJ3, "<init>", "()V"⟩
def RJ4 : String := "java/lang/UnsupportedOperationException"
def TJ4 : u_T := fun k => match k with
  | 0 => ("java/lang/Throwable", "cause", "Ljava/lang/Throwable;", false)
  | 1 => ("java/lang/Throwable", "stackTrace", "[Ljava/lang/StackTraceElement;", false)
  | 2 => ("java/lang/Throwable", "suppressedExceptions", "Ljava/util/List;", false)
  | 3 => ("java/lang/Throwable", "detailMessage", "Ljava/lang/String;", false)
  | 4 => ("java/lang/Throwable", "backtrace", "Ljava/lang/Object;", false)
  | _ => ("java/lang/Throwable", "depth", "I", false)
def tyJ4 : Nat → FieldType := fun k => match k with
  | 0 => .object "java/lang/Throwable"
  | 1 => .array (.object "java/lang/StackTraceElement")
  | 2 => .object "java/util/List"
  | 3 => .object "java/lang/String"
  | 4 => .object "java/lang/Object"
  | _ => .int
abbrev wsJ40 : List Cond := u_ws RJ4 TJ4 6
theorem nmJ4 : ∀ a, a < 6 → ∀ b, b < 6 → a ≠ b → (TJ4 a).2.1 ≠ (TJ4 b).2.1 := by decide +kernel
theorem tyJ4_ok : ∀ k, k < 6 → parseFieldDescriptor (TJ4 k).2.2.1 = some (tyJ4 k) := by decide +kernel
abbrev cJ4_init : ByteArray := prog_21_method_1_code
def yJ4_init : MethodName := ⟨RJ4, "<init>", "()V"⟩
def RJ5 : String := "java/lang/IndexOutOfBoundsException"
def TJ5 : u_T := fun k => match k with
  | 0 => ("java/lang/Throwable", "cause", "Ljava/lang/Throwable;", false)
  | 1 => ("java/lang/Throwable", "stackTrace", "[Ljava/lang/StackTraceElement;", false)
  | 2 => ("java/lang/Throwable", "suppressedExceptions", "Ljava/util/List;", false)
  | 3 => ("java/lang/Throwable", "detailMessage", "Ljava/lang/String;", false)
  | 4 => ("java/lang/Throwable", "backtrace", "Ljava/lang/Object;", false)
  | _ => ("java/lang/Throwable", "depth", "I", false)
def tyJ5 : Nat → FieldType := fun k => match k with
  | 0 => .object "java/lang/Throwable"
  | 1 => .array (.object "java/lang/StackTraceElement")
  | 2 => .object "java/util/List"
  | 3 => .object "java/lang/String"
  | 4 => .object "java/lang/Object"
  | _ => .int
abbrev wsJ50 : List Cond := u_ws RJ5 TJ5 6
theorem nmJ5 : ∀ a, a < 6 → ∀ b, b < 6 → a ≠ b → (TJ5 a).2.1 ≠ (TJ5 b).2.1 := by decide +kernel
theorem tyJ5_ok : ∀ k, k < 6 → parseFieldDescriptor (TJ5 k).2.2.1 = some (tyJ5 k) := by decide +kernel
abbrev cJ5_init : ByteArray := prog_13_method_2_code
def yJ5_init : MethodName := ⟨RJ5, "<init>", "(Ljava/lang/String;)V"⟩
abbrev cJ5_init_2 : ByteArray := prog_13_method_1_code
def yJ5_init_2 : MethodName := ⟨RJ5, "<init>", "()V"⟩
def RJ6 : String := "java/lang/ArrayIndexOutOfBoundsException"
def TJ6 : u_T := fun k => match k with
  | 0 => ("java/lang/Throwable", "backtrace", "Ljava/lang/Object;", false)
  | 1 => ("java/lang/Throwable", "detailMessage", "Ljava/lang/String;", false)
  | 2 => ("java/lang/Throwable", "cause", "Ljava/lang/Throwable;", false)
  | 3 => ("java/lang/Throwable", "stackTrace", "[Ljava/lang/StackTraceElement;", false)
  | 4 => ("java/lang/Throwable", "depth", "I", false)
  | _ => ("java/lang/Throwable", "suppressedExceptions", "Ljava/util/List;", false)
def tyJ6 : Nat → FieldType := fun k => match k with
  | 0 => .object "java/lang/Object"
  | 1 => .object "java/lang/String"
  | 2 => .object "java/lang/Throwable"
  | 3 => .array (.object "java/lang/StackTraceElement")
  | 4 => .int
  | _ => .object "java/util/List"
abbrev wsJ60 : List Cond := u_ws RJ6 TJ6 6
theorem nmJ6 : ∀ a, a < 6 → ∀ b, b < 6 → a ≠ b → (TJ6 a).2.1 ≠ (TJ6 b).2.1 := by decide +kernel
theorem tyJ6_ok : ∀ k, k < 6 → parseFieldDescriptor (TJ6 k).2.2.1 = some (tyJ6 k) := by decide +kernel
abbrev cJ6_init : ByteArray := prog_9_method_2_code
def yJ6_init : MethodName := ⟨RJ6, "<init>", "(Ljava/lang/String;)V"⟩
def RJ7 : String := "java/lang/String"
def TJ7 : u_T := fun k => match k with
  | 0 => ("java/lang/String", "value", "[B", true)
  | _ => ("java/lang/String", "coder", "B", true)
def tyJ7 : Nat → FieldType := fun k => match k with
  | 0 => .array .byte
  | _ => .byte
abbrev wsJ70 : List Cond := u_ws RJ7 TJ7 2
theorem nmJ7 : ∀ a, a < 2 → ∀ b, b < 2 → a ≠ b → (TJ7 a).2.1 ≠ (TJ7 b).2.1 := by decide +kernel
theorem tyJ7_ok : ∀ k, k < 2 → parseFieldDescriptor (TJ7 k).2.2.1 = some (tyJ7 k) := by decide +kernel
abbrev cJ7_length : ByteArray := prog_16_method_54_code
def yJ7_length : MethodName := ⟨RJ7, "length", "()I"⟩
abbrev cJ7_coder : ByteArray := prog_16_method_152_code
def yJ7_coder : MethodName := ⟨RJ7, "coder", "()B"⟩
abbrev cJ7_charAt : ByteArray := prog_16_method_56_code
def yJ7_charAt : MethodName := ⟨RJ7, "charAt", "(I)C"⟩
abbrev cJ7_isLatin1 : ByteArray := prog_16_method_154_code
def yJ7_isLatin1 : MethodName := ⟨RJ7, "isLatin1", "()Z"⟩
abbrev cJ7_checkIndex : ByteArray := prog_16_method_155_code
def yJ7_checkIndex : MethodName := ⟨RJ7, "checkIndex", "(II)V"⟩
def RJ8 : String := "java/lang/IllegalStateException"
def TJ8 : u_T := fun k => match k with
  | 0 => ("java/lang/Throwable", "cause", "Ljava/lang/Throwable;", false)
  | 1 => ("java/lang/Throwable", "stackTrace", "[Ljava/lang/StackTraceElement;", false)
  | 2 => ("java/lang/Throwable", "suppressedExceptions", "Ljava/util/List;", false)
  | 3 => ("java/lang/Throwable", "detailMessage", "Ljava/lang/String;", false)
  | 4 => ("java/lang/Throwable", "backtrace", "Ljava/lang/Object;", false)
  | _ => ("java/lang/Throwable", "depth", "I", false)
def tyJ8 : Nat → FieldType := fun k => match k with
  | 0 => .object "java/lang/Throwable"
  | 1 => .array (.object "java/lang/StackTraceElement")
  | 2 => .object "java/util/List"
  | 3 => .object "java/lang/String"
  | 4 => .object "java/lang/Object"
  | _ => .int
abbrev wsJ80 : List Cond := u_ws RJ8 TJ8 6
theorem nmJ8 : ∀ a, a < 6 → ∀ b, b < 6 → a ≠ b → (TJ8 a).2.1 ≠ (TJ8 b).2.1 := by decide +kernel
theorem tyJ8_ok : ∀ k, k < 6 → parseFieldDescriptor (TJ8 k).2.2.1 = some (tyJ8 k) := by decide +kernel
abbrev cJ8_init : ByteArray := prog_12_method_1_code
def yJ8_init : MethodName := ⟨RJ8, "<init>", "()V"⟩
def RJ9 : String := "java/lang/Math"
abbrev cJ9_max : ByteArray := prog_14_method_65_code
def yJ9_max : MethodName := ⟨RJ9, "max", "(II)I"⟩
abbrev cJ9_min : ByteArray := prog_14_method_69_code
def yJ9_min : MethodName := ⟨RJ9, "min", "(II)I"⟩
abbrev cJ9_abs : ByteArray := prog_14_method_59_code
def yJ9_abs : MethodName := ⟨RJ9, "abs", "(I)I"⟩
abbrev cL_law : ByteArray := code
def RX0 : String := "DesertChannelsLaw"
abbrev cX0_ground : ByteArray := method_3_code
def yX0_ground : MethodName := ⟨RX0, "ground", "(LDesertChannels;II)I"⟩
abbrev cX0_channel : ByteArray := method_4_code
def yX0_channel : MethodName := ⟨RX0, "channel", "(LDesertChannels;[J)I"⟩
abbrev cX0_well : ByteArray := method_5_code
def yX0_well : MethodName := ⟨RX0, "well", "(LDesertChannels;IIII[J)I"⟩
abbrev cX0_may : ByteArray := method_6_code
def yX0_may : MethodName := ⟨RX0, "may", "(LDesertChannels;I[J)I"⟩
abbrev cX0_dig : ByteArray := method_7_code
def yX0_dig : MethodName := ⟨RX0, "dig", "(LDesertChannels;III[J)I"⟩
abbrev cX0_years : ByteArray := method_8_code
def yX0_years : MethodName := ⟨RX0, "years", "(LDesertChannels;I[J)I"⟩
abbrev cX0_collapse : ByteArray := method_9_code
def yX0_collapse : MethodName := ⟨RX0, "collapse", "(LDesertChannels;IIZ[J)I"⟩
abbrev cX0_flow : ByteArray := method_10_code
def yX0_flow : MethodName := ⟨RX0, "flow", "(LDesertChannels;I[J)I"⟩
abbrev cX0_harm : ByteArray := method_11_code
def yX0_harm : MethodName := ⟨RX0, "harm", "(LDesertChannels;I[J)I"⟩
abbrev cX0_seep : ByteArray := method_12_code
def yX0_seep : MethodName := ⟨RX0, "seep", "(LDesertChannels;II[J)I"⟩
abbrev cX0_sell : ByteArray := method_13_code
def yX0_sell : MethodName := ⟨RX0, "sell", "(LDesertChannels;IIII)I"⟩
abbrev cX0_heirs : ByteArray := method_14_code
def yX0_heirs : MethodName := ⟨RX0, "heirs", "(LDesertChannels;IIIIIIIIII[J)I"⟩
abbrev cX0_let : ByteArray := method_15_code
def yX0_let : MethodName := ⟨RX0, "let", "(LDesertChannels;IIII)I"⟩
abbrev cX0_minutes : ByteArray := method_16_code
def yX0_minutes : MethodName := ⟨RX0, "minutes", "(LDesertChannels;I[J)I"⟩
abbrev cX0_holder : ByteArray := method_17_code
def yX0_holder : MethodName := ⟨RX0, "holder", "(LDesertChannels;II[J)I"⟩
abbrev cX0_share : ByteArray := method_18_code
def yX0_share : MethodName := ⟨RX0, "share", "(LDesertChannels;II[J)I"⟩
abbrev cX0_law : ByteArray := method_19_code
def yX0_law : MethodName := ⟨RX0, "law", "(LDesertChannels;[J)I"⟩
abbrev cX0_says : ByteArray := method_20_code
def yX0_says : MethodName := ⟨RX0, "says", "(LDesertChannels;I[J)I"⟩
abbrev cX0_pays : ByteArray := method_21_code
def yX0_pays : MethodName := ⟨RX0, "pays", "(LDesertChannels;III[J)I"⟩
abbrev cX0_field : ByteArray := method_22_code
def yX0_field : MethodName := ⟨RX0, "field", "(LDesertChannels;III[J)I"⟩
def RX1 : String := "DesertChannels"
def TX1 : u_T := fun k => match k with
  | 0 => ("DesertChannels", "reader", "LDesertChannels$Reader;", true)
  | 1 => ("DesertChannels", "channels", "[LDesertChannels$Channel;", true)
  | 2 => ("DesertChannels", "shares", "[LDesertChannels$Share;", true)
  | 3 => ("DesertChannels", "law", "[I", true)
  | 4 => ("DesertChannels", "draft", "[I", true)
  | 5 => ("DesertChannels", "took", "[I", true)
  | 6 => ("DesertChannels", "due", "[I", true)
  | 7 => ("DesertChannels", "loss", "[I", true)
  | 8 => ("DesertChannels", "best", "[I", true)
  | 9 => ("DesertChannels", "length", "[I", true)
  | 10 => ("DesertChannels", "piece", "[I", true)
  | 11 => ("DesertChannels", "weight", "[J", true)
  | 12 => ("DesertChannels", "channelMany", "I", false)
  | 13 => ("DesertChannels", "dug", "I", false)
  | 14 => ("DesertChannels", "shareMany", "I", false)
  | 15 => ("DesertChannels", "head", "I", false)
  | 16 => ("DesertChannels", "slope", "I", false)
  | 17 => ("DesertChannels", "year", "I", false)
  | 18 => ("DesertChannels", "now", "I", false)
  | 19 => ("DesertChannels", "fields", "I", false)
  | _ => ("DesertChannels", "wrongAt", "I", false)
def tyX1 : Nat → FieldType := fun k => match k with
  | 0 => .object "DesertChannels$Reader"
  | 1 => .array (.object "DesertChannels$Channel")
  | 2 => .array (.object "DesertChannels$Share")
  | 3 => .array .int
  | 4 => .array .int
  | 5 => .array .int
  | 6 => .array .int
  | 7 => .array .int
  | 8 => .array .int
  | 9 => .array .int
  | 10 => .array .int
  | 11 => .array .long
  | 12 => .int
  | 13 => .int
  | 14 => .int
  | 15 => .int
  | 16 => .int
  | 17 => .int
  | 18 => .int
  | 19 => .int
  | _ => .int
abbrev wsX10 : List Cond := u_ws RX1 TX1 21
set_option maxRecDepth 100000 in
theorem nmX1 : ∀ a, a < 21 → ∀ b, b < 21 → a ≠ b → (TX1 a).2.1 ≠ (TX1 b).2.1 := by decide +kernel
set_option maxRecDepth 100000 in
theorem tyX1_ok : ∀ k, k < 21 → parseFieldDescriptor (TX1 k).2.2.1 = some (tyX1 k) := by decide +kernel
abbrev cX1_init : ByteArray := prog_1_method_1_code
def yX1_init : MethodName := ⟨RX1, "<init>", "()V"⟩
abbrev cX1_feed : ByteArray := prog_1_method_12_code
def yX1_feed : MethodName := ⟨RX1, "feed", "(IIIII)I"⟩
abbrev cX1_four : ByteArray := prog_1_method_11_code
def yX1_four : MethodName := ⟨RX1, "four", "(I)V"⟩
abbrev cX1_end : ByteArray := prog_1_method_13_code
def yX1_end : MethodName := ⟨RX1, "end", "(I)Z"⟩
abbrev cX1_isIn : ByteArray := prog_1_method_6_code
def yX1_isIn : MethodName := ⟨RX1, "isIn", "(III)Z"⟩
abbrev cX1_fault : ByteArray := prog_1_method_35_code
def yX1_fault : MethodName := ⟨RX1, "fault", "()I"⟩
abbrev cX1_least : ByteArray := prog_1_method_39_code
def yX1_least : MethodName := ⟨RX1, "least", "()I"⟩
abbrev cX1_count : ByteArray := prog_1_method_40_code
def yX1_count : MethodName := ⟨RX1, "count", "(I)I"⟩
abbrev cX1_flowOf : ByteArray := prog_1_method_23_code
def yX1_flowOf : MethodName := ⟨RX1, "flowOf", "(LDesertChannels$Channel;I)I"⟩
abbrev cX1_seepOf : ByteArray := prog_1_method_22_code
def yX1_seepOf : MethodName := ⟨RX1, "seepOf", "(LDesertChannels$Channel;II)I"⟩
abbrev cX1_ground : ByteArray := prog_1_method_14_code
def yX1_ground : MethodName := ⟨RX1, "ground", "(II)V"⟩
abbrev cX1_must : ByteArray := prog_1_method_2_code
def yX1_must : MethodName := ⟨RX1, "must", "(Z)V"⟩
abbrev cX1_channel : ByteArray := prog_1_method_15_code
def yX1_channel : MethodName := ⟨RX1, "channel", "()I"⟩
abbrev cX1_mayBe : ByteArray := prog_1_method_3_code
def yX1_mayBe : MethodName := ⟨RX1, "mayBe", "(Z)V"⟩
abbrev cX1_well : ByteArray := prog_1_method_16_code
def yX1_well : MethodName := ⟨RX1, "well", "(IIII)I"⟩
abbrev cX1_channelAt : ByteArray := prog_1_method_8_code
def yX1_channelAt : MethodName := ⟨RX1, "channelAt", "(I)LDesertChannels$Channel;"⟩
abbrev cX1_mustBe : ByteArray := prog_1_method_4_code
def yX1_mustBe : MethodName := ⟨RX1, "mustBe", "(Z)V"⟩
abbrev cX1_stands : ByteArray := prog_1_method_5_code
def yX1_stands : MethodName := ⟨RX1, "stands", "(Z)V"⟩
abbrev cX1_may : ByteArray := prog_1_method_18_code
def yX1_may : MethodName := ⟨RX1, "may", "(I)Z"⟩
abbrev cX1_isAllowed : ByteArray := prog_1_method_17_code
def yX1_isAllowed : MethodName := ⟨RX1, "isAllowed", "(LDesertChannels$Channel;)Z"⟩
abbrev cX1_dig : ByteArray := prog_1_method_19_code
def yX1_dig : MethodName := ⟨RX1, "dig", "(III)I"⟩
abbrev cX1_isOwner : ByteArray := prog_1_method_7_code
def yX1_isOwner : MethodName := ⟨RX1, "isOwner", "(I)Z"⟩
abbrev cX1_add : ByteArray := prog_1_method_27_code
def yX1_add : MethodName := ⟨RX1, "add", "(LDesertChannels$Channel;IIII)V"⟩
abbrev cX1_years : ByteArray := prog_1_method_20_code
def yX1_years : MethodName := ⟨RX1, "years", "(I)I"⟩
abbrev cX1_collapse : ByteArray := prog_1_method_21_code
def yX1_collapse : MethodName := ⟨RX1, "collapse", "(IIZ)Z"⟩
abbrev cX1_flow : ByteArray := prog_1_method_24_code
def yX1_flow : MethodName := ⟨RX1, "flow", "(I)I"⟩
abbrev cX1_dugAt : ByteArray := prog_1_method_9_code
def yX1_dugAt : MethodName := ⟨RX1, "dugAt", "(I)LDesertChannels$Channel;"⟩
abbrev cX1_harm : ByteArray := prog_1_method_25_code
def yX1_harm : MethodName := ⟨RX1, "harm", "(I)I"⟩
abbrev cX1_seep : ByteArray := prog_1_method_26_code
def yX1_seep : MethodName := ⟨RX1, "seep", "(II)I"⟩
abbrev cX1_sell : ByteArray := prog_1_method_28_code
def yX1_sell : MethodName := ⟨RX1, "sell", "(IIII)V"⟩
abbrev cX1_shareAt : ByteArray := prog_1_method_10_code
def yX1_shareAt : MethodName := ⟨RX1, "shareAt", "(I)LDesertChannels$Share;"⟩
abbrev cX1_heirs : ByteArray := prog_1_method_29_code
def yX1_heirs : MethodName := ⟨RX1, "heirs", "(IIIIIIIIII)I"⟩
abbrev cX1_let : ByteArray := prog_1_method_30_code
def yX1_let : MethodName := ⟨RX1, "let", "(IIII)V"⟩
abbrev cX1_minutes : ByteArray := prog_1_method_31_code
def yX1_minutes : MethodName := ⟨RX1, "minutes", "(I)I"⟩
abbrev cX1_holder : ByteArray := prog_1_method_32_code
def yX1_holder : MethodName := ⟨RX1, "holder", "(II)I"⟩
abbrev cX1_share : ByteArray := prog_1_method_33_code
def yX1_share : MethodName := ⟨RX1, "share", "(II)I"⟩
abbrev cX1_law : ByteArray := prog_1_method_34_code
def yX1_law : MethodName := ⟨RX1, "law", "()I"⟩
abbrev cX1_says : ByteArray := prog_1_method_36_code
def yX1_says : MethodName := ⟨RX1, "says", "(I)I"⟩
abbrev cX1_pays : ByteArray := prog_1_method_37_code
def yX1_pays : MethodName := ⟨RX1, "pays", "(III)I"⟩
abbrev cX1_field : ByteArray := prog_1_method_38_code
def yX1_field : MethodName := ⟨RX1, "field", "(III)I"⟩
def RX2 : String := "DesertChannels$Reader"
def TX2 : u_T := fun k => match k with
  | 0 => ("DesertChannels$Reader", "tape", "[B", true)
  | 1 => ("DesertChannels$Reader", "words", "[Ljava/lang/String;", true)
  | 2 => ("DesertChannels$Reader", "wrong", "LDesertChannels$Wrong;", true)
  | 3 => ("DesertChannels$Reader", "size", "I", false)
  | 4 => ("DesertChannels$Reader", "end", "I", false)
  | _ => ("DesertChannels$Reader", "at", "I", false)
def tyX2 : Nat → FieldType := fun k => match k with
  | 0 => .array .byte
  | 1 => .array (.object "java/lang/String")
  | 2 => .object "DesertChannels$Wrong"
  | 3 => .int
  | 4 => .int
  | _ => .int
abbrev wsX20 : List Cond := u_ws RX2 TX2 6
theorem nmX2 : ∀ a, a < 6 → ∀ b, b < 6 → a ≠ b → (TX2 a).2.1 ≠ (TX2 b).2.1 := by decide +kernel
theorem tyX2_ok : ∀ k, k < 6 → parseFieldDescriptor (TX2 k).2.2.1 = some (tyX2 k) := by decide +kernel
abbrev cX2_init : ByteArray := prog_3_method_1_code
def yX2_init : MethodName := ⟨RX2, "<init>", "()V"⟩
abbrev cX2_read : ByteArray := prog_3_method_6_code
def yX2_read : MethodName := ⟨RX2, "read", "(I[I)I"⟩
abbrev cX2_word : ByteArray := prog_3_method_4_code
def yX2_word : MethodName := ⟨RX2, "word", "(II)I"⟩
abbrev cX2_sign : ByteArray := prog_3_method_3_code
def yX2_sign : MethodName := ⟨RX2, "sign", "()I"⟩
abbrev cX2_fail : ByteArray := prog_3_method_2_code
def yX2_fail : MethodName := ⟨RX2, "fail", "(I)V"⟩
abbrev cX2_number : ByteArray := prog_3_method_5_code
def yX2_number : MethodName := ⟨RX2, "number", "(I)I"⟩
def RX3 : String := "DesertChannels$Wrong"
def TX3 : u_T := fun k => match k with
  | 0 => ("java/lang/Throwable", "cause", "Ljava/lang/Throwable;", false)
  | 1 => ("java/lang/Throwable", "stackTrace", "[Ljava/lang/StackTraceElement;", false)
  | 2 => ("java/lang/Throwable", "suppressedExceptions", "Ljava/util/List;", false)
  | 3 => ("java/lang/Throwable", "detailMessage", "Ljava/lang/String;", false)
  | 4 => ("java/lang/Throwable", "backtrace", "Ljava/lang/Object;", false)
  | 5 => ("java/lang/Throwable", "depth", "I", false)
  | _ => ("DesertChannels$Wrong", "place", "I", false)
def tyX3 : Nat → FieldType := fun k => match k with
  | 0 => .object "java/lang/Throwable"
  | 1 => .array (.object "java/lang/StackTraceElement")
  | 2 => .object "java/util/List"
  | 3 => .object "java/lang/String"
  | 4 => .object "java/lang/Object"
  | 5 => .int
  | _ => .int
abbrev wsX30 : List Cond := u_ws RX3 TX3 7
theorem nmX3 : ∀ a, a < 7 → ∀ b, b < 7 → a ≠ b → (TX3 a).2.1 ≠ (TX3 b).2.1 := by decide +kernel
theorem tyX3_ok : ∀ k, k < 7 → parseFieldDescriptor (TX3 k).2.2.1 = some (tyX3 k) := by decide +kernel
abbrev cX3_init : ByteArray := prog_6_method_1_code
def yX3_init : MethodName := ⟨RX3, "<init>", "()V"⟩
def RX4 : String := "DesertChannelsModel"
def TX4 : u_T := fun k => match k with
  | 0 => ("DesertChannelsModel", "thrown", "I", false)
  | 1 => ("DesertChannelsModel", "head", "I", false)
  | 2 => ("DesertChannelsModel", "slope", "I", false)
  | 3 => ("DesertChannelsModel", "year", "I", false)
  | 4 => ("DesertChannelsModel", "now", "I", false)
  | 5 => ("DesertChannelsModel", "wells", "[I", true)
  | 6 => ("DesertChannelsModel", "isDug", "[Z", true)
  | 7 => ("DesertChannelsModel", "dugIn", "[I", true)
  | 8 => ("DesertChannelsModel", "order", "[I", true)
  | 9 => ("DesertChannelsModel", "turn", "[I", true)
  | 10 => ("DesertChannelsModel", "channels", "I", false)
  | 11 => ("DesertChannelsModel", "dug", "I", false)
  | 12 => ("DesertChannelsModel", "wx", "[I", true)
  | 13 => ("DesertChannelsModel", "wy", "[I", true)
  | 14 => ("DesertChannelsModel", "floor", "[I", true)
  | 15 => ("DesertChannelsModel", "isDown", "[Z", true)
  | 16 => ("DesertChannelsModel", "share", "[I", true)
  | 17 => ("DesertChannelsModel", "shares", "I", false)
  | 18 => ("DesertChannelsModel", "who", "[I", true)
  | 19 => ("DesertChannelsModel", "part", "[I", true)
  | 20 => ("DesertChannelsModel", "length", "[I", true)
  | 21 => ("DesertChannelsModel", "says", "[I", true)
  | 22 => ("DesertChannelsModel", "draft", "[I", true)
  | 23 => ("DesertChannelsModel", "tape", "[B", true)
  | 24 => ("DesertChannelsModel", "taped", "I", false)
  | 25 => ("DesertChannelsModel", "point", "I", false)
  | 26 => ("DesertChannelsModel", "end", "I", false)
  | 27 => ("DesertChannelsModel", "begin", "I", false)
  | 28 => ("DesertChannelsModel", "faultAt", "I", false)
  | 29 => ("DesertChannelsModel", "five", "[I", true)
  | 30 => ("DesertChannelsModel", "minutesOf", "[I", true)
  | 31 => ("DesertChannelsModel", "need", "[I", true)
  | 32 => ("DesertChannelsModel", "due", "[I", true)
  | 33 => ("DesertChannelsModel", "loss", "[I", true)
  | 34 => ("DesertChannelsModel", "fields", "I", false)
  | _ => ("DesertChannelsModel", "lost", "[I", true)
def tyX4 : Nat → FieldType := fun k => match k with
  | 0 => .int
  | 1 => .int
  | 2 => .int
  | 3 => .int
  | 4 => .int
  | 5 => .array .int
  | 6 => .array .boolean
  | 7 => .array .int
  | 8 => .array .int
  | 9 => .array .int
  | 10 => .int
  | 11 => .int
  | 12 => .array .int
  | 13 => .array .int
  | 14 => .array .int
  | 15 => .array .boolean
  | 16 => .array .int
  | 17 => .int
  | 18 => .array .int
  | 19 => .array .int
  | 20 => .array .int
  | 21 => .array .int
  | 22 => .array .int
  | 23 => .array .byte
  | 24 => .int
  | 25 => .int
  | 26 => .int
  | 27 => .int
  | 28 => .int
  | 29 => .array .int
  | 30 => .array .int
  | 31 => .array .int
  | 32 => .array .int
  | 33 => .array .int
  | 34 => .int
  | _ => .array .int
abbrev wsX40 : List Cond := u_ws RX4 TX4 36
set_option maxRecDepth 100000 in
theorem nmX4 : ∀ a, a < 36 → ∀ b, b < 36 → a ≠ b → (TX4 a).2.1 ≠ (TX4 b).2.1 := by decide +kernel
set_option maxRecDepth 100000 in
theorem tyX4_ok : ∀ k, k < 36 → parseFieldDescriptor (TX4 k).2.2.1 = some (tyX4 k) := by decide +kernel
abbrev cX4_init : ByteArray := prog_8_method_1_code
def yX4_init : MethodName := ⟨RX4, "<init>", "()V"⟩
abbrev cX4_thrown : ByteArray := prog_8_method_2_code
def yX4_thrown : MethodName := ⟨RX4, "thrown", "()I"⟩
abbrev cX4_ground : ByteArray := prog_8_method_8_code
def yX4_ground : MethodName := ⟨RX4, "ground", "(II)V"⟩
abbrev cX4_in : ByteArray := prog_8_method_4_code
def yX4_in : MethodName := ⟨RX4, "in", "(III)Z"⟩
abbrev cX4_throwsIf : ByteArray := prog_8_method_3_code
def yX4_throwsIf : MethodName := ⟨RX4, "throwsIf", "(ZI)Z"⟩
abbrev cX4_channel : ByteArray := prog_8_method_9_code
def yX4_channel : MethodName := ⟨RX4, "channel", "()I"⟩
abbrev cX4_well : ByteArray := prog_8_method_10_code
def yX4_well : MethodName := ⟨RX4, "well", "(IIII)I"⟩
abbrev cX4_noChannel : ByteArray := prog_8_method_5_code
def yX4_noChannel : MethodName := ⟨RX4, "noChannel", "(I)Z"⟩
abbrev cX4_may : ByteArray := prog_8_method_13_code
def yX4_may : MethodName := ⟨RX4, "may", "(I)Z"⟩
abbrev cX4_mayBe : ByteArray := prog_8_method_12_code
def yX4_mayBe : MethodName := ⟨RX4, "mayBe", "(I)Z"⟩
abbrev cX4_steps : ByteArray := prog_8_method_11_code
def yX4_steps : MethodName := ⟨RX4, "steps", "(IIII)I"⟩
abbrev cX4_dig : ByteArray := prog_8_method_14_code
def yX4_dig : MethodName := ⟨RX4, "dig", "(III)I"⟩
abbrev cX4_adds : ByteArray := prog_8_method_25_code
def yX4_adds : MethodName := ⟨RX4, "adds", "(IIII)V"⟩
abbrev cX4_sets : ByteArray := prog_8_method_24_code
def yX4_sets : MethodName := ⟨RX4, "sets", "(IIII)V"⟩
abbrev cX4_years : ByteArray := prog_8_method_15_code
def yX4_years : MethodName := ⟨RX4, "years", "(I)I"⟩
abbrev cX4_collapse : ByteArray := prog_8_method_16_code
def yX4_collapse : MethodName := ⟨RX4, "collapse", "(IIZ)Z"⟩
abbrev cX4_noWell : ByteArray := prog_8_method_6_code
def yX4_noWell : MethodName := ⟨RX4, "noWell", "(II)Z"⟩
abbrev cX4_flow : ByteArray := prog_8_method_21_code
def yX4_flow : MethodName := ⟨RX4, "flow", "(I)I"⟩
abbrev cX4_flows : ByteArray := prog_8_method_20_code
def yX4_flows : MethodName := ⟨RX4, "flows", "(II)I"⟩
abbrev cX4_runs : ByteArray := prog_8_method_17_code
def yX4_runs : MethodName := ⟨RX4, "runs", "(I)I"⟩
abbrev cX4_seeps : ByteArray := prog_8_method_19_code
def yX4_seeps : MethodName := ⟨RX4, "seeps", "(III)I"⟩
abbrev cX4_draw : ByteArray := prog_8_method_18_code
def yX4_draw : MethodName := ⟨RX4, "draw", "(III)I"⟩
abbrev cX4_harm : ByteArray := prog_8_method_22_code
def yX4_harm : MethodName := ⟨RX4, "harm", "(I)I"⟩
abbrev cX4_seep : ByteArray := prog_8_method_23_code
def yX4_seep : MethodName := ⟨RX4, "seep", "(II)I"⟩
abbrev cX4_sell : ByteArray := prog_8_method_28_code
def yX4_sell : MethodName := ⟨RX4, "sell", "(IIII)V"⟩
abbrev cX4_noShare : ByteArray := prog_8_method_7_code
def yX4_noShare : MethodName := ⟨RX4, "noShare", "(I)Z"⟩
abbrev cX4_isLet : ByteArray := prog_8_method_26_code
def yX4_isLet : MethodName := ⟨RX4, "isLet", "(I)Z"⟩
abbrev cX4_noOwner : ByteArray := prog_8_method_27_code
def yX4_noOwner : MethodName := ⟨RX4, "noOwner", "(I)Z"⟩
abbrev cX4_heirs : ByteArray := prog_8_method_29_code
def yX4_heirs : MethodName := ⟨RX4, "heirs", "(IIIIIIIIII)I"⟩
abbrev cX4_let : ByteArray := prog_8_method_30_code
def yX4_let : MethodName := ⟨RX4, "let", "(IIII)V"⟩
abbrev cX4_minutes : ByteArray := prog_8_method_31_code
def yX4_minutes : MethodName := ⟨RX4, "minutes", "(I)I"⟩
abbrev cX4_holder : ByteArray := prog_8_method_32_code
def yX4_holder : MethodName := ⟨RX4, "holder", "(II)I"⟩
abbrev cX4_share : ByteArray := prog_8_method_33_code
def yX4_share : MethodName := ⟨RX4, "share", "(II)I"⟩
abbrev cX4_feed : ByteArray := prog_8_method_34_code
def yX4_feed : MethodName := ⟨RX4, "feed", "(IIIII)I"⟩
abbrev cX4_end : ByteArray := prog_8_method_35_code
def yX4_end : MethodName := ⟨RX4, "end", "(I)Z"⟩
abbrev cX4_law : ByteArray := prog_8_method_42_code
def yX4_law : MethodName := ⟨RX4, "law", "()I"⟩
abbrev cX4_readTerm : ByteArray := prog_8_method_41_code
def yX4_readTerm : MethodName := ⟨RX4, "readTerm", "()Z"⟩
abbrev cX4_word : ByteArray := prog_8_method_39_code
def yX4_word : MethodName := ⟨RX4, "word", "()V"⟩
abbrev cX4_blanks : ByteArray := prog_8_method_37_code
def yX4_blanks : MethodName := ⟨RX4, "blanks", "()V"⟩
abbrev cX4_isAt : ByteArray := prog_8_method_36_code
def yX4_isAt : MethodName := ⟨RX4, "isAt", "(II)Z"⟩
abbrev cX4_isWord : ByteArray := prog_8_method_38_code
def yX4_isWord : MethodName := ⟨RX4, "isWord", "(Ljava/lang/String;)Z"⟩
abbrev cX4_number : ByteArray := prog_8_method_40_code
def yX4_number : MethodName := ⟨RX4, "number", "(II)Z"⟩
abbrev cX4_fault : ByteArray := prog_8_method_43_code
def yX4_fault : MethodName := ⟨RX4, "fault", "()I"⟩
abbrev cX4_says : ByteArray := prog_8_method_44_code
def yX4_says : MethodName := ⟨RX4, "says", "(I)I"⟩
abbrev cX4_pays : ByteArray := prog_8_method_45_code
def yX4_pays : MethodName := ⟨RX4, "pays", "(III)I"⟩
abbrev cX4_portion : ByteArray := prog_8_method_46_code
def yX4_portion : MethodName := ⟨RX4, "portion", "(JIII)J"⟩
abbrev cX4_field : ByteArray := prog_8_method_47_code
def yX4_field : MethodName := ⟨RX4, "field", "(III)I"⟩
abbrev cX4_least : ByteArray := prog_8_method_48_code
def yX4_least : MethodName := ⟨RX4, "least", "()I"⟩
abbrev cX4_count : ByteArray := prog_8_method_49_code
def yX4_count : MethodName := ⟨RX4, "count", "(I)I"⟩
def RX5 : String := "DesertChannels$Channel"
def TX5 : u_T := fun k => match k with
  | 0 => ("DesertChannels$Channel", "wells", "[LDesertChannels$Well;", true)
  | 1 => ("DesertChannels$Channel", "many", "I", false)
  | 2 => ("DesertChannels$Channel", "year", "I", false)
  | 3 => ("DesertChannels$Channel", "order", "I", false)
  | _ => ("DesertChannels$Channel", "turn", "I", false)
def tyX5 : Nat → FieldType := fun k => match k with
  | 0 => .array (.object "DesertChannels$Well")
  | 1 => .int
  | 2 => .int
  | 3 => .int
  | _ => .int
abbrev wsX50 : List Cond := u_ws RX5 TX5 5
theorem nmX5 : ∀ a, a < 5 → ∀ b, b < 5 → a ≠ b → (TX5 a).2.1 ≠ (TX5 b).2.1 := by decide +kernel
theorem tyX5_ok : ∀ k, k < 5 → parseFieldDescriptor (TX5 k).2.2.1 = some (tyX5 k) := by decide +kernel
abbrev cX5_isDug : ByteArray := prog_2_method_2_code
def yX5_isDug : MethodName := ⟨RX5, "isDug", "()Z"⟩
abbrev cX5_runs : ByteArray := prog_2_method_3_code
def yX5_runs : MethodName := ⟨RX5, "runs", "()I"⟩
abbrev cX5_draw : ByteArray := prog_2_method_4_code
def yX5_draw : MethodName := ⟨RX5, "draw", "(LDesertChannels$Well;I)I"⟩
abbrev cX5_init : ByteArray := prog_2_method_1_code
def yX5_init : MethodName := ⟨RX5, "<init>", "()V"⟩
def RX6 : String := "DesertChannels$Well"
def TX6 : u_T := fun k => match k with
  | 0 => ("DesertChannels$Well", "x", "I", true)
  | 1 => ("DesertChannels$Well", "y", "I", true)
  | 2 => ("DesertChannels$Well", "floor", "I", true)
  | _ => ("DesertChannels$Well", "collapsed", "Z", false)
def tyX6 : Nat → FieldType := fun k => match k with
  | 0 => .int
  | 1 => .int
  | 2 => .int
  | _ => .boolean
abbrev wsX60 : List Cond := u_ws RX6 TX6 4
theorem nmX6 : ∀ a, a < 4 → ∀ b, b < 4 → a ≠ b → (TX6 a).2.1 ≠ (TX6 b).2.1 := by decide +kernel
theorem tyX6_ok : ∀ k, k < 4 → parseFieldDescriptor (TX6 k).2.2.1 = some (tyX6 k) := by decide +kernel
abbrev cX6_steps : ByteArray := prog_5_method_2_code
def yX6_steps : MethodName := ⟨RX6, "steps", "(LDesertChannels$Well;)I"⟩
abbrev cX6_init : ByteArray := prog_5_method_1_code
def yX6_init : MethodName := ⟨RX6, "<init>", "(III)V"⟩
def RX7 : String := "DesertChannels$Share"
def TX7 : u_T := fun k => match k with
  | 0 => ("DesertChannels$Share", "channel", "LDesertChannels$Channel;", true)
  | 1 => ("DesertChannels$Share", "number", "I", true)
  | 2 => ("DesertChannels$Share", "from", "I", false)
  | 3 => ("DesertChannels$Share", "to", "I", false)
  | 4 => ("DesertChannels$Share", "owner", "I", false)
  | 5 => ("DesertChannels$Share", "tenant", "I", false)
  | 6 => ("DesertChannels$Share", "letFrom", "I", false)
  | _ => ("DesertChannels$Share", "letTo", "I", false)
def tyX7 : Nat → FieldType := fun k => match k with
  | 0 => .object "DesertChannels$Channel"
  | 1 => .int
  | 2 => .int
  | 3 => .int
  | 4 => .int
  | 5 => .int
  | 6 => .int
  | _ => .int
abbrev wsX70 : List Cond := u_ws RX7 TX7 8
theorem nmX7 : ∀ a, a < 8 → ∀ b, b < 8 → a ≠ b → (TX7 a).2.1 ≠ (TX7 b).2.1 := by decide +kernel
theorem tyX7_ok : ∀ k, k < 8 → parseFieldDescriptor (TX7 k).2.2.1 = some (tyX7 k) := by decide +kernel
abbrev cX7_isLet : ByteArray := prog_4_method_2_code
def yX7_isLet : MethodName := ⟨RX7, "isLet", "(I)Z"⟩
abbrev cX7_init : ByteArray := prog_4_method_1_code
def yX7_init : MethodName := ⟨RX7, "<init>", "(LDesertChannels$Channel;IIII)V"⟩
abbrev cX7_be : ByteArray := prog_4_method_4_code
def yX7_be : MethodName := ⟨RX7, "be", "(III)V"⟩
abbrev cX7_holder : ByteArray := prog_4_method_3_code
def yX7_holder : MethodName := ⟨RX7, "holder", "(I)I"⟩
theorem q35 : (Jvm.Cond.initialized "java/lang/Throwable") ∈ lw_all := lw_g (lw_at lw_m1 3 rfl) rfl
theorem q84 : (Jvm.Cond.declares ({ cls := "java/lang/Throwable", name := "<init>", desc := "()V" } : Jvm.MethodName)) ∈ lw_tbl := lw_at lw_m1 52 rfl
theorem q85 : (Jvm.Cond.declares ({ cls := "java/lang/Throwable", name := "<init>", desc := "(Ljava/lang/String;)V" } : Jvm.MethodName)) ∈ lw_tbl := lw_at lw_m1 53 rfl
theorem q89 : (Jvm.Cond.lays "java/lang/Throwable" "java/lang/Throwable" "cause" "Ljava/lang/Throwable;") ∈ lw_all := lw_g (lw_at lw_m1 57 rfl) rfl
theorem q91 : (Jvm.Cond.lays "java/lang/Throwable" "java/lang/Throwable" "stackTrace" "[Ljava/lang/StackTraceElement;") ∈ lw_all := lw_g (lw_at lw_m1 59 rfl) rfl
theorem q93 : (Jvm.Cond.lays "java/lang/Throwable" "java/lang/Throwable" "suppressedExceptions" "Ljava/util/List;") ∈ lw_all := lw_g (lw_at lw_m1 61 rfl) rfl
theorem q95 : (Jvm.Cond.lays "java/lang/Throwable" "java/lang/Throwable" "detailMessage" "Ljava/lang/String;") ∈ lw_all := lw_g (lw_at lw_m1 63 rfl) rfl
theorem q97 : (Jvm.Cond.lays "java/lang/Throwable" "java/lang/Throwable" "backtrace" "Ljava/lang/Object;") ∈ lw_all := lw_g (lw_at lw_m1 65 rfl) rfl
theorem q98 : (Jvm.Cond.fieldLink "java/lang/Throwable" (198 : Nat) "java/lang/Throwable" "backtrace" "Ljava/lang/Object;") ∈ lw_all := lw_g (lw_at lw_m1 66 rfl) rfl
theorem q99 : (Jvm.Cond.superclass "java/lang/Throwable" "java/lang/Object") ∈ lw_all := lw_g (lw_at lw_m1 67 rfl) rfl
theorem q100 : (Jvm.Cond.instanceMethod ({ cls := "java/lang/Throwable", name := "<init>", desc := "()V" } : Jvm.MethodName)) ∈ lw_all := lw_g (lw_at lw_m1 68 rfl) rfl
theorem q101 : (Jvm.Cond.code ({ cls := "java/lang/Throwable", name := "<init>", desc := "()V" } : Jvm.MethodName) prog_20_method_1_code (1 : Nat) (Option.none : Option Jvm.ClassFile.FieldType)) ∈ lw_all := lw_g (lw_at lw_m1 69 rfl) rfl
theorem q102 : (Jvm.Cond.methodLink "java/lang/Throwable" (1 : Nat) ({ cls := "java/lang/Object", name := "<init>", desc := "()V" } : Jvm.MethodName)) ∈ lw_all := lw_g (lw_at lw_m1 70 rfl) rfl
theorem q103 : (Jvm.Cond.fieldLink "java/lang/Throwable" (13 : Nat) "java/lang/Throwable" "UNASSIGNED_STACK" "[Ljava/lang/StackTraceElement;") ∈ lw_all := lw_g (lw_at lw_m1 71 rfl) rfl
theorem q104 : (Jvm.Cond.laysStatic "java/lang/Throwable" "UNASSIGNED_STACK" "[Ljava/lang/StackTraceElement;") ∈ lw_tbl := lw_at lw_m1 72 rfl
theorem q105 : (Jvm.Cond.fieldLink "java/lang/Throwable" (20 : Nat) "java/lang/Throwable" "SUPPRESSED_SENTINEL" "Ljava/util/List;") ∈ lw_all := lw_g (lw_at lw_m1 73 rfl) rfl
theorem q106 : (Jvm.Cond.laysStatic "java/lang/Throwable" "SUPPRESSED_SENTINEL" "Ljava/util/List;") ∈ lw_tbl := lw_at lw_m1 74 rfl
theorem q107 : (Jvm.Cond.methodLink "java/lang/Throwable" (27 : Nat) ({ cls := "java/lang/Throwable", name := "fillInStackTrace", desc := "()Ljava/lang/Throwable;" } : Jvm.MethodName)) ∈ lw_all := lw_g (lw_at lw_m1 75 rfl) rfl
theorem q108 : (Jvm.Cond.instanceMethod ({ cls := "java/lang/Throwable", name := "fillInStackTrace", desc := "()Ljava/lang/Throwable;" } : Jvm.MethodName)) ∈ lw_all := lw_g (lw_at lw_m1 76 rfl) rfl
theorem q109 : (Jvm.Cond.sameMethod "java/lang/Throwable" "java/lang/Throwable" "fillInStackTrace" "()Ljava/lang/Throwable;") ∈ lw_all := lw_g (lw_at lw_m1 77 rfl) rfl
theorem q116 : (Jvm.Cond.codeSync ({ cls := "java/lang/Throwable", name := "fillInStackTrace", desc := "()Ljava/lang/Throwable;" } : Jvm.MethodName) prog_20_method_18_code (1 : Nat) (Option.some (Jvm.ClassFile.FieldType.object "java/lang/Throwable"))) ∈ lw_all := lw_g (lw_at lw_m1 84 rfl) rfl
theorem q117 : (Jvm.Cond.methodLink "java/lang/Throwable" (202 : Nat) ({ cls := "java/lang/Throwable", name := "fillInStackTrace", desc := "(I)Ljava/lang/Throwable;" } : Jvm.MethodName)) ∈ lw_all := lw_g (lw_at lw_m1 85 rfl) rfl
theorem q118 : (Jvm.Cond.privateMethod ({ cls := "java/lang/Throwable", name := "fillInStackTrace", desc := "(I)Ljava/lang/Throwable;" } : Jvm.MethodName)) ∈ lw_tbl := lw_at lw_m1 86 rfl
theorem q119 : (Jvm.Cond.instanceMethod ({ cls := "java/lang/Throwable", name := "fillInStackTrace", desc := "(I)Ljava/lang/Throwable;" } : Jvm.MethodName)) ∈ lw_all := lw_g (lw_at lw_m1 87 rfl) rfl
theorem q120 : (Jvm.Cond.instantiable "java/lang/Throwable" (6 : Nat)) ∈ lw_all := lw_g (lw_at lw_m1 88 rfl) rfl
theorem q121 : (Jvm.Cond.native ({ cls := "java/lang/Throwable", name := "fillInStackTrace", desc := "(I)Ljava/lang/Throwable;" } : Jvm.MethodName)) ∈ lw_all := lw_g (lw_at lw_m1 89 rfl) rfl
theorem q132 : (Jvm.Cond.instanceMethod ({ cls := "java/lang/Throwable", name := "<init>", desc := "(Ljava/lang/String;Ljava/lang/Throwable;ZZ)V" } : Jvm.MethodName)) ∈ lw_all := lw_g (lw_at lw_m1 100 rfl) rfl
theorem q133 : (Jvm.Cond.code ({ cls := "java/lang/Throwable", name := "<init>", desc := "(Ljava/lang/String;Ljava/lang/Throwable;ZZ)V" } : Jvm.MethodName) prog_20_method_5_code (5 : Nat) (Option.none : Option Jvm.ClassFile.FieldType)) ∈ lw_all := lw_g (lw_at lw_m1 101 rfl) rfl
theorem q136 : (Jvm.Cond.fieldLink "java/lang/Throwable" (198 : Nat) "java/lang/Throwable" "backtrace" "Ljava/lang/Object;") ∈ lw_all := lw_g (lw_at lw_m1 104 rfl) rfl
theorem q137 : (Jvm.Cond.fieldLink "java/lang/Throwable" (31 : Nat) "java/lang/Throwable" "detailMessage" "Ljava/lang/String;") ∈ lw_all := lw_g (lw_at lw_m1 105 rfl) rfl
theorem q138 : (Jvm.Cond.fieldLink "java/lang/Throwable" (7 : Nat) "java/lang/Throwable" "cause" "Ljava/lang/Throwable;") ∈ lw_all := lw_g (lw_at lw_m1 106 rfl) rfl
theorem q139 : (Jvm.Cond.fieldLink "java/lang/Throwable" (17 : Nat) "java/lang/Throwable" "stackTrace" "[Ljava/lang/StackTraceElement;") ∈ lw_all := lw_g (lw_at lw_m1 107 rfl) rfl
theorem q140 : (Jvm.Cond.fieldLink "java/lang/Throwable" (24 : Nat) "java/lang/Throwable" "suppressedExceptions" "Ljava/util/List;") ∈ lw_all := lw_g (lw_at lw_m1 108 rfl) rfl
theorem q143 : (Jvm.Cond.soleField "java/lang/Throwable" "backtrace") ∈ lw_all := lw_g (lw_at lw_m1 111 rfl) rfl
theorem q144 : (Jvm.Cond.soleField "java/lang/Throwable" "detailMessage") ∈ lw_all := lw_g (lw_at lw_m1 112 rfl) rfl
theorem q145 : (Jvm.Cond.soleField "java/lang/Throwable" "cause") ∈ lw_all := lw_g (lw_at lw_m1 113 rfl) rfl
theorem q146 : (Jvm.Cond.soleField "java/lang/Throwable" "stackTrace") ∈ lw_all := lw_g (lw_at lw_m1 114 rfl) rfl
theorem q148 : (Jvm.Cond.soleField "java/lang/Throwable" "depth") ∈ lw_all := lw_g (lw_at lw_m1 116 rfl) rfl
theorem q149 : (Jvm.Cond.soleField "java/lang/Throwable" "suppressedExceptions") ∈ lw_all := lw_g (lw_at lw_m1 117 rfl) rfl
theorem q412 : (Jvm.Cond.instanceMethod ({ cls := "java/lang/Throwable", name := "<init>", desc := "(Ljava/lang/String;)V" } : Jvm.MethodName)) ∈ lw_all := lw_g (lw_at lw_m2 140 rfl) rfl
theorem q413 : (Jvm.Cond.code ({ cls := "java/lang/Throwable", name := "<init>", desc := "(Ljava/lang/String;)V" } : Jvm.MethodName) prog_20_method_2_code (2 : Nat) (Option.none : Option Jvm.ClassFile.FieldType)) ∈ lw_all := lw_g (lw_at lw_m2 141 rfl) rfl
theorem q1096 : (Jvm.Cond.sameMethod "java/lang/Throwable" "java/lang/Throwable" "fillInStackTrace" "(I)Ljava/lang/Throwable;") ∈ lw_all := lw_g (lw_at lw_m5 104 rfl) rfl
theorem q1111 : (Jvm.Cond.castable "java/lang/Throwable" "java/lang/Object") ∈ lw_tbl := lw_at lw_m5 119 rfl
theorem in_J0 : ∀ w ∈ wsJ00, w ∈ lw_all := lw_in wsJ00 [89, 91, 93, 95, 97] (by decide +kernel) (by decide +kernel)
theorem q36 : (Jvm.Cond.initialized "java/lang/Exception") ∈ lw_all := lw_g (lw_at lw_m1 4 rfl) rfl
theorem q82 : (Jvm.Cond.declares ({ cls := "java/lang/Exception", name := "<init>", desc := "()V" } : Jvm.MethodName)) ∈ lw_tbl := lw_at lw_m1 50 rfl
theorem q83 : (Jvm.Cond.declares ({ cls := "java/lang/Exception", name := "<init>", desc := "(Ljava/lang/String;)V" } : Jvm.MethodName)) ∈ lw_tbl := lw_at lw_m1 51 rfl
theorem q129 : (Jvm.Cond.instanceMethod ({ cls := "java/lang/Exception", name := "<init>", desc := "(Ljava/lang/String;Ljava/lang/Throwable;ZZ)V" } : Jvm.MethodName)) ∈ lw_all := lw_g (lw_at lw_m1 97 rfl) rfl
theorem q130 : (Jvm.Cond.code ({ cls := "java/lang/Exception", name := "<init>", desc := "(Ljava/lang/String;Ljava/lang/Throwable;ZZ)V" } : Jvm.MethodName) prog_10_method_5_code (5 : Nat) (Option.none : Option Jvm.ClassFile.FieldType)) ∈ lw_all := lw_g (lw_at lw_m1 98 rfl) rfl
theorem q131 : (Jvm.Cond.methodLink "java/lang/Exception" (16 : Nat) ({ cls := "java/lang/Throwable", name := "<init>", desc := "(Ljava/lang/String;Ljava/lang/Throwable;ZZ)V" } : Jvm.MethodName)) ∈ lw_all := lw_g (lw_at lw_m1 99 rfl) rfl
theorem q337 : (Jvm.Cond.instanceMethod ({ cls := "java/lang/Exception", name := "<init>", desc := "()V" } : Jvm.MethodName)) ∈ lw_all := lw_g (lw_at lw_m2 65 rfl) rfl
theorem q338 : (Jvm.Cond.code ({ cls := "java/lang/Exception", name := "<init>", desc := "()V" } : Jvm.MethodName) prog_10_method_1_code (1 : Nat) (Option.none : Option Jvm.ClassFile.FieldType)) ∈ lw_all := lw_g (lw_at lw_m2 66 rfl) rfl
theorem q339 : (Jvm.Cond.methodLink "java/lang/Exception" (1 : Nat) ({ cls := "java/lang/Throwable", name := "<init>", desc := "()V" } : Jvm.MethodName)) ∈ lw_all := lw_g (lw_at lw_m2 67 rfl) rfl
theorem q409 : (Jvm.Cond.instanceMethod ({ cls := "java/lang/Exception", name := "<init>", desc := "(Ljava/lang/String;)V" } : Jvm.MethodName)) ∈ lw_all := lw_g (lw_at lw_m2 137 rfl) rfl
theorem q410 : (Jvm.Cond.code ({ cls := "java/lang/Exception", name := "<init>", desc := "(Ljava/lang/String;)V" } : Jvm.MethodName) prog_10_method_2_code (2 : Nat) (Option.none : Option Jvm.ClassFile.FieldType)) ∈ lw_all := lw_g (lw_at lw_m2 138 rfl) rfl
theorem q411 : (Jvm.Cond.methodLink "java/lang/Exception" (7 : Nat) ({ cls := "java/lang/Throwable", name := "<init>", desc := "(Ljava/lang/String;)V" } : Jvm.MethodName)) ∈ lw_all := lw_g (lw_at lw_m2 139 rfl) rfl
theorem q50 : (Jvm.Cond.initialized "java/util/NoSuchElementException") ∈ lw_all := lw_g (lw_at lw_m1 18 rfl) rfl
theorem q115 : (Jvm.Cond.selects "java/util/NoSuchElementException" ({ cls := "java/lang/Throwable", name := "fillInStackTrace", desc := "()Ljava/lang/Throwable;" } : Jvm.MethodName) ({ cls := "java/lang/Throwable", name := "fillInStackTrace", desc := "()Ljava/lang/Throwable;" } : Jvm.MethodName)) ∈ lw_all := lw_g (lw_at lw_m1 83 rfl) rfl
theorem q658 : (Jvm.Cond.instantiable "java/util/NoSuchElementException" (6 : Nat)) ∈ lw_all := lw_g (lw_at lw_m3 146 rfl) rfl
theorem q659 : (Jvm.Cond.castable "java/util/NoSuchElementException" "java/util/NoSuchElementException") ∈ lw_tbl := lw_at lw_m3 147 rfl
theorem q660 : (Jvm.Cond.selects "java/util/NoSuchElementException" ({ cls := "java/lang/Throwable", name := "fillInStackTrace", desc := "(I)Ljava/lang/Throwable;" } : Jvm.MethodName) ({ cls := "java/lang/Throwable", name := "fillInStackTrace", desc := "(I)Ljava/lang/Throwable;" } : Jvm.MethodName)) ∈ lw_all := lw_g (lw_at lw_m3 148 rfl) rfl
theorem q661 : (Jvm.Cond.lays "java/util/NoSuchElementException" "java/lang/Throwable" "cause" "Ljava/lang/Throwable;") ∈ lw_all := lw_g (lw_at lw_m3 149 rfl) rfl
theorem q662 : (Jvm.Cond.lays "java/util/NoSuchElementException" "java/lang/Throwable" "stackTrace" "[Ljava/lang/StackTraceElement;") ∈ lw_all := lw_g (lw_at lw_m3 150 rfl) rfl
theorem q663 : (Jvm.Cond.lays "java/util/NoSuchElementException" "java/lang/Throwable" "suppressedExceptions" "Ljava/util/List;") ∈ lw_all := lw_g (lw_at lw_m3 151 rfl) rfl
theorem q664 : (Jvm.Cond.lays "java/util/NoSuchElementException" "java/lang/Throwable" "detailMessage" "Ljava/lang/String;") ∈ lw_all := lw_g (lw_at lw_m3 152 rfl) rfl
theorem q665 : (Jvm.Cond.lays "java/util/NoSuchElementException" "java/lang/Throwable" "backtrace" "Ljava/lang/Object;") ∈ lw_all := lw_g (lw_at lw_m3 153 rfl) rfl
theorem q667 : (Jvm.Cond.instanceMethod ({ cls := "java/util/NoSuchElementException", name := "<init>", desc := "()V" } : Jvm.MethodName)) ∈ lw_all := lw_g (lw_at lw_m3 155 rfl) rfl
theorem q668 : (Jvm.Cond.code ({ cls := "java/util/NoSuchElementException", name := "<init>", desc := "()V" } : Jvm.MethodName) prog_22_method_1_code (1 : Nat) (Option.none : Option Jvm.ClassFile.FieldType)) ∈ lw_all := lw_g (lw_at lw_m3 156 rfl) rfl
theorem q669 : (Jvm.Cond.methodLink "java/util/NoSuchElementException" (1 : Nat) ({ cls := "java/lang/RuntimeException", name := "<init>", desc := "()V" } : Jvm.MethodName)) ∈ lw_all := lw_g (lw_at lw_m3 157 rfl) rfl
theorem q670 : (Jvm.Cond.lays "java/util/NoSuchElementException" "java/lang/Throwable" "depth" "I") ∈ lw_all := lw_g (lw_at lw_m3 158 rfl) rfl
theorem q671 : (Jvm.Cond.superclass "java/util/NoSuchElementException" "java/lang/RuntimeException") ∈ lw_all := lw_g (lw_at lw_m3 159 rfl) rfl
theorem q1110 : (Jvm.Cond.castable "java/util/NoSuchElementException" "java/lang/Object") ∈ lw_tbl := lw_at lw_m5 118 rfl
theorem in_J10 : ∀ w ∈ wsJ100, w ∈ lw_all := lw_in wsJ100 [661, 662, 663, 664, 665, 670] (by decide +kernel) (by decide +kernel)
theorem q52 : (Jvm.Cond.initialized "java/lang/StringLatin1") ∈ lw_all := lw_g (lw_at lw_m1 20 rfl) rfl
theorem q714 : (Jvm.Cond.static ({ cls := "java/lang/StringLatin1", name := "charAt", desc := "([BI)C" } : Jvm.MethodName)) ∈ lw_all := lw_g (lw_at lw_m3 202 rfl) rfl
theorem q715 : (Jvm.Cond.code ({ cls := "java/lang/StringLatin1", name := "charAt", desc := "([BI)C" } : Jvm.MethodName) prog_17_method_2_code (2 : Nat) (Option.some Jvm.ClassFile.FieldType.char)) ∈ lw_all := lw_g (lw_at lw_m3 203 rfl) rfl
theorem q716 : (Jvm.Cond.methodLink "java/lang/StringLatin1" (9 : Nat) ({ cls := "java/lang/String", name := "checkIndex", desc := "(II)V" } : Jvm.MethodName)) ∈ lw_all := lw_g (lw_at lw_m3 204 rfl) rfl
theorem q53 : (Jvm.Cond.initialized "jdk/internal/util/Preconditions") ∈ lw_all := lw_g (lw_at lw_m1 21 rfl) rfl
theorem q720 : (Jvm.Cond.laysStatic "jdk/internal/util/Preconditions" "SIOOBE_FORMATTER" "Ljava/util/function/BiFunction;") ∈ lw_tbl := lw_at lw_m3 208 rfl
theorem q722 : (Jvm.Cond.static ({ cls := "jdk/internal/util/Preconditions", name := "checkIndex", desc := "(IILjava/util/function/BiFunction;)I" } : Jvm.MethodName)) ∈ lw_all := lw_g (lw_at lw_m3 210 rfl) rfl
theorem q723 : (Jvm.Cond.code ({ cls := "jdk/internal/util/Preconditions", name := "checkIndex", desc := "(IILjava/util/function/BiFunction;)I" } : Jvm.MethodName) prog_23_method_11_code (3 : Nat) (Option.some Jvm.ClassFile.FieldType.int)) ∈ lw_all := lw_g (lw_at lw_m3 211 rfl) rfl
theorem q54 : (Jvm.Cond.initialized "java/lang/StringUTF16") ∈ lw_all := lw_g (lw_at lw_m1 22 rfl) rfl
theorem q725 : (Jvm.Cond.static ({ cls := "java/lang/StringUTF16", name := "charAt", desc := "([BI)C" } : Jvm.MethodName)) ∈ lw_all := lw_g (lw_at lw_m3 213 rfl) rfl
theorem q726 : (Jvm.Cond.code ({ cls := "java/lang/StringUTF16", name := "charAt", desc := "([BI)C" } : Jvm.MethodName) prog_18_method_83_code (2 : Nat) (Option.some Jvm.ClassFile.FieldType.char)) ∈ lw_all := lw_g (lw_at lw_m3 214 rfl) rfl
theorem q727 : (Jvm.Cond.methodLink "java/lang/StringUTF16" (67 : Nat) ({ cls := "java/lang/StringUTF16", name := "checkIndex", desc := "(I[B)V" } : Jvm.MethodName)) ∈ lw_all := lw_g (lw_at lw_m3 215 rfl) rfl
theorem q728 : (Jvm.Cond.static ({ cls := "java/lang/StringUTF16", name := "checkIndex", desc := "(I[B)V" } : Jvm.MethodName)) ∈ lw_all := lw_g (lw_at lw_m3 216 rfl) rfl
theorem q729 : (Jvm.Cond.code ({ cls := "java/lang/StringUTF16", name := "checkIndex", desc := "(I[B)V" } : Jvm.MethodName) prog_18_method_91_code (2 : Nat) (Option.none : Option Jvm.ClassFile.FieldType)) ∈ lw_all := lw_g (lw_at lw_m3 217 rfl) rfl
theorem q730 : (Jvm.Cond.methodLink "java/lang/StringUTF16" (48 : Nat) ({ cls := "java/lang/StringUTF16", name := "length", desc := "([B)I" } : Jvm.MethodName)) ∈ lw_all := lw_g (lw_at lw_m3 218 rfl) rfl
theorem q731 : (Jvm.Cond.static ({ cls := "java/lang/StringUTF16", name := "length", desc := "([B)I" } : Jvm.MethodName)) ∈ lw_all := lw_g (lw_at lw_m3 219 rfl) rfl
theorem q732 : (Jvm.Cond.code ({ cls := "java/lang/StringUTF16", name := "length", desc := "([B)I" } : Jvm.MethodName) prog_18_method_6_code (1 : Nat) (Option.some Jvm.ClassFile.FieldType.int)) ∈ lw_all := lw_g (lw_at lw_m3 220 rfl) rfl
theorem q733 : (Jvm.Cond.methodLink "java/lang/StringUTF16" (414 : Nat) ({ cls := "java/lang/String", name := "checkIndex", desc := "(II)V" } : Jvm.MethodName)) ∈ lw_all := lw_g (lw_at lw_m3 221 rfl) rfl
theorem q734 : (Jvm.Cond.methodLink "java/lang/StringUTF16" (71 : Nat) ({ cls := "java/lang/StringUTF16", name := "getChar", desc := "([BI)C" } : Jvm.MethodName)) ∈ lw_all := lw_g (lw_at lw_m3 222 rfl) rfl
theorem q735 : (Jvm.Cond.static ({ cls := "java/lang/StringUTF16", name := "getChar", desc := "([BI)C" } : Jvm.MethodName)) ∈ lw_all := lw_g (lw_at lw_m3 223 rfl) rfl
theorem q736 : (Jvm.Cond.code ({ cls := "java/lang/StringUTF16", name := "getChar", desc := "([BI)C" } : Jvm.MethodName) prog_18_method_5_code (2 : Nat) (Option.some Jvm.ClassFile.FieldType.char)) ∈ lw_all := lw_g (lw_at lw_m3 224 rfl) rfl
theorem q737 : (Jvm.Cond.fieldLink "java/lang/StringUTF16" (44 : Nat) "java/lang/StringUTF16" "$assertionsDisabled" "Z") ∈ lw_all := lw_g (lw_at lw_m3 225 rfl) rfl
theorem q738 : (Jvm.Cond.laysStatic "java/lang/StringUTF16" "$assertionsDisabled" "Z") ∈ lw_tbl := lw_at lw_m3 226 rfl
theorem q739 : (Jvm.Cond.fieldLink "java/lang/StringUTF16" (59 : Nat) "java/lang/StringUTF16" "HI_BYTE_SHIFT" "I") ∈ lw_all := lw_g (lw_at lw_m3 227 rfl) rfl
theorem q740 : (Jvm.Cond.laysStatic "java/lang/StringUTF16" "HI_BYTE_SHIFT" "I") ∈ lw_tbl := lw_at lw_m3 228 rfl
theorem q741 : (Jvm.Cond.fieldLink "java/lang/StringUTF16" (63 : Nat) "java/lang/StringUTF16" "LO_BYTE_SHIFT" "I") ∈ lw_all := lw_g (lw_at lw_m3 229 rfl) rfl
theorem q742 : (Jvm.Cond.laysStatic "java/lang/StringUTF16" "LO_BYTE_SHIFT" "I") ∈ lw_tbl := lw_at lw_m3 230 rfl
theorem q61 : (Jvm.Cond.instanceMethod ({ cls := "java/lang/Object", name := "<init>", desc := "()V" } : Jvm.MethodName)) ∈ lw_all := lw_g (lw_at lw_m1 29 rfl) rfl
theorem q62 : (Jvm.Cond.code ({ cls := "java/lang/Object", name := "<init>", desc := "()V" } : Jvm.MethodName) object_method_1_code (1 : Nat) (Option.none : Option Jvm.ClassFile.FieldType)) ∈ lw_all := lw_g (lw_at lw_m1 30 rfl) rfl
theorem q37 : (Jvm.Cond.initialized "java/lang/RuntimeException") ∈ lw_all := lw_g (lw_at lw_m1 5 rfl) rfl
theorem q80 : (Jvm.Cond.declares ({ cls := "java/lang/RuntimeException", name := "<init>", desc := "()V" } : Jvm.MethodName)) ∈ lw_tbl := lw_at lw_m1 48 rfl
theorem q81 : (Jvm.Cond.declares ({ cls := "java/lang/RuntimeException", name := "<init>", desc := "(Ljava/lang/String;)V" } : Jvm.MethodName)) ∈ lw_tbl := lw_at lw_m1 49 rfl
theorem q126 : (Jvm.Cond.instanceMethod ({ cls := "java/lang/RuntimeException", name := "<init>", desc := "(Ljava/lang/String;Ljava/lang/Throwable;ZZ)V" } : Jvm.MethodName)) ∈ lw_all := lw_g (lw_at lw_m1 94 rfl) rfl
theorem q127 : (Jvm.Cond.code ({ cls := "java/lang/RuntimeException", name := "<init>", desc := "(Ljava/lang/String;Ljava/lang/Throwable;ZZ)V" } : Jvm.MethodName) prog_15_method_5_code (5 : Nat) (Option.none : Option Jvm.ClassFile.FieldType)) ∈ lw_all := lw_g (lw_at lw_m1 95 rfl) rfl
theorem q128 : (Jvm.Cond.methodLink "java/lang/RuntimeException" (16 : Nat) ({ cls := "java/lang/Exception", name := "<init>", desc := "(Ljava/lang/String;Ljava/lang/Throwable;ZZ)V" } : Jvm.MethodName)) ∈ lw_all := lw_g (lw_at lw_m1 96 rfl) rfl
theorem q334 : (Jvm.Cond.instanceMethod ({ cls := "java/lang/RuntimeException", name := "<init>", desc := "()V" } : Jvm.MethodName)) ∈ lw_all := lw_g (lw_at lw_m2 62 rfl) rfl
theorem q335 : (Jvm.Cond.code ({ cls := "java/lang/RuntimeException", name := "<init>", desc := "()V" } : Jvm.MethodName) prog_15_method_1_code (1 : Nat) (Option.none : Option Jvm.ClassFile.FieldType)) ∈ lw_all := lw_g (lw_at lw_m2 63 rfl) rfl
theorem q336 : (Jvm.Cond.methodLink "java/lang/RuntimeException" (1 : Nat) ({ cls := "java/lang/Exception", name := "<init>", desc := "()V" } : Jvm.MethodName)) ∈ lw_all := lw_g (lw_at lw_m2 64 rfl) rfl
theorem q406 : (Jvm.Cond.instanceMethod ({ cls := "java/lang/RuntimeException", name := "<init>", desc := "(Ljava/lang/String;)V" } : Jvm.MethodName)) ∈ lw_all := lw_g (lw_at lw_m2 134 rfl) rfl
theorem q407 : (Jvm.Cond.code ({ cls := "java/lang/RuntimeException", name := "<init>", desc := "(Ljava/lang/String;)V" } : Jvm.MethodName) prog_15_method_2_code (2 : Nat) (Option.none : Option Jvm.ClassFile.FieldType)) ∈ lw_all := lw_g (lw_at lw_m2 135 rfl) rfl
theorem q408 : (Jvm.Cond.methodLink "java/lang/RuntimeException" (7 : Nat) ({ cls := "java/lang/Exception", name := "<init>", desc := "(Ljava/lang/String;)V" } : Jvm.MethodName)) ∈ lw_all := lw_g (lw_at lw_m2 136 rfl) rfl
theorem q40 : (Jvm.Cond.initialized "java/lang/IllegalArgumentException") ∈ lw_all := lw_g (lw_at lw_m1 8 rfl) rfl
theorem q111 : (Jvm.Cond.selects "java/lang/IllegalArgumentException" ({ cls := "java/lang/Throwable", name := "fillInStackTrace", desc := "()Ljava/lang/Throwable;" } : Jvm.MethodName) ({ cls := "java/lang/Throwable", name := "fillInStackTrace", desc := "()Ljava/lang/Throwable;" } : Jvm.MethodName)) ∈ lw_all := lw_g (lw_at lw_m1 79 rfl) rfl
theorem q322 : (Jvm.Cond.instantiable "java/lang/IllegalArgumentException" (6 : Nat)) ∈ lw_all := lw_g (lw_at lw_m2 50 rfl) rfl
theorem q323 : (Jvm.Cond.castable "java/lang/IllegalArgumentException" "java/lang/IllegalArgumentException") ∈ lw_tbl := lw_at lw_m2 51 rfl
theorem q324 : (Jvm.Cond.selects "java/lang/IllegalArgumentException" ({ cls := "java/lang/Throwable", name := "fillInStackTrace", desc := "(I)Ljava/lang/Throwable;" } : Jvm.MethodName) ({ cls := "java/lang/Throwable", name := "fillInStackTrace", desc := "(I)Ljava/lang/Throwable;" } : Jvm.MethodName)) ∈ lw_all := lw_g (lw_at lw_m2 52 rfl) rfl
theorem q325 : (Jvm.Cond.lays "java/lang/IllegalArgumentException" "java/lang/Throwable" "cause" "Ljava/lang/Throwable;") ∈ lw_all := lw_g (lw_at lw_m2 53 rfl) rfl
theorem q326 : (Jvm.Cond.lays "java/lang/IllegalArgumentException" "java/lang/Throwable" "stackTrace" "[Ljava/lang/StackTraceElement;") ∈ lw_all := lw_g (lw_at lw_m2 54 rfl) rfl
theorem q327 : (Jvm.Cond.lays "java/lang/IllegalArgumentException" "java/lang/Throwable" "suppressedExceptions" "Ljava/util/List;") ∈ lw_all := lw_g (lw_at lw_m2 55 rfl) rfl
theorem q328 : (Jvm.Cond.lays "java/lang/IllegalArgumentException" "java/lang/Throwable" "detailMessage" "Ljava/lang/String;") ∈ lw_all := lw_g (lw_at lw_m2 56 rfl) rfl
theorem q329 : (Jvm.Cond.lays "java/lang/IllegalArgumentException" "java/lang/Throwable" "backtrace" "Ljava/lang/Object;") ∈ lw_all := lw_g (lw_at lw_m2 57 rfl) rfl
theorem q331 : (Jvm.Cond.instanceMethod ({ cls := "java/lang/IllegalArgumentException", name := "<init>", desc := "()V" } : Jvm.MethodName)) ∈ lw_all := lw_g (lw_at lw_m2 59 rfl) rfl
theorem q332 : (Jvm.Cond.code ({ cls := "java/lang/IllegalArgumentException", name := "<init>", desc := "()V" } : Jvm.MethodName) prog_11_method_1_code (1 : Nat) (Option.none : Option Jvm.ClassFile.FieldType)) ∈ lw_all := lw_g (lw_at lw_m2 60 rfl) rfl
theorem q333 : (Jvm.Cond.methodLink "java/lang/IllegalArgumentException" (1 : Nat) ({ cls := "java/lang/RuntimeException", name := "<init>", desc := "()V" } : Jvm.MethodName)) ∈ lw_all := lw_g (lw_at lw_m2 61 rfl) rfl
theorem q340 : (Jvm.Cond.lays "java/lang/IllegalArgumentException" "java/lang/Throwable" "depth" "I") ∈ lw_all := lw_g (lw_at lw_m2 68 rfl) rfl
theorem q341 : (Jvm.Cond.superclass "java/lang/IllegalArgumentException" "java/lang/RuntimeException") ∈ lw_all := lw_g (lw_at lw_m2 69 rfl) rfl
theorem q1102 : (Jvm.Cond.castable "java/lang/IllegalArgumentException" "java/lang/Object") ∈ lw_tbl := lw_at lw_m5 110 rfl
theorem in_J3 : ∀ w ∈ wsJ30, w ∈ lw_all := lw_in wsJ30 [325, 326, 327, 328, 329, 340] (by decide +kernel) (by decide +kernel)
theorem q41 : (Jvm.Cond.initialized "java/lang/UnsupportedOperationException") ∈ lw_all := lw_g (lw_at lw_m1 9 rfl) rfl
theorem q114 : (Jvm.Cond.selects "java/lang/UnsupportedOperationException" ({ cls := "java/lang/Throwable", name := "fillInStackTrace", desc := "()Ljava/lang/Throwable;" } : Jvm.MethodName) ({ cls := "java/lang/Throwable", name := "fillInStackTrace", desc := "()Ljava/lang/Throwable;" } : Jvm.MethodName)) ∈ lw_all := lw_g (lw_at lw_m1 82 rfl) rfl
theorem q354 : (Jvm.Cond.instantiable "java/lang/UnsupportedOperationException" (6 : Nat)) ∈ lw_all := lw_g (lw_at lw_m2 82 rfl) rfl
theorem q355 : (Jvm.Cond.castable "java/lang/UnsupportedOperationException" "java/lang/UnsupportedOperationException") ∈ lw_tbl := lw_at lw_m2 83 rfl
theorem q356 : (Jvm.Cond.selects "java/lang/UnsupportedOperationException" ({ cls := "java/lang/Throwable", name := "fillInStackTrace", desc := "(I)Ljava/lang/Throwable;" } : Jvm.MethodName) ({ cls := "java/lang/Throwable", name := "fillInStackTrace", desc := "(I)Ljava/lang/Throwable;" } : Jvm.MethodName)) ∈ lw_all := lw_g (lw_at lw_m2 84 rfl) rfl
theorem q357 : (Jvm.Cond.lays "java/lang/UnsupportedOperationException" "java/lang/Throwable" "cause" "Ljava/lang/Throwable;") ∈ lw_all := lw_g (lw_at lw_m2 85 rfl) rfl
theorem q358 : (Jvm.Cond.lays "java/lang/UnsupportedOperationException" "java/lang/Throwable" "stackTrace" "[Ljava/lang/StackTraceElement;") ∈ lw_all := lw_g (lw_at lw_m2 86 rfl) rfl
theorem q359 : (Jvm.Cond.lays "java/lang/UnsupportedOperationException" "java/lang/Throwable" "suppressedExceptions" "Ljava/util/List;") ∈ lw_all := lw_g (lw_at lw_m2 87 rfl) rfl
theorem q360 : (Jvm.Cond.lays "java/lang/UnsupportedOperationException" "java/lang/Throwable" "detailMessage" "Ljava/lang/String;") ∈ lw_all := lw_g (lw_at lw_m2 88 rfl) rfl
theorem q361 : (Jvm.Cond.lays "java/lang/UnsupportedOperationException" "java/lang/Throwable" "backtrace" "Ljava/lang/Object;") ∈ lw_all := lw_g (lw_at lw_m2 89 rfl) rfl
theorem q363 : (Jvm.Cond.instanceMethod ({ cls := "java/lang/UnsupportedOperationException", name := "<init>", desc := "()V" } : Jvm.MethodName)) ∈ lw_all := lw_g (lw_at lw_m2 91 rfl) rfl
theorem q364 : (Jvm.Cond.code ({ cls := "java/lang/UnsupportedOperationException", name := "<init>", desc := "()V" } : Jvm.MethodName) prog_21_method_1_code (1 : Nat) (Option.none : Option Jvm.ClassFile.FieldType)) ∈ lw_all := lw_g (lw_at lw_m2 92 rfl) rfl
theorem q365 : (Jvm.Cond.methodLink "java/lang/UnsupportedOperationException" (1 : Nat) ({ cls := "java/lang/RuntimeException", name := "<init>", desc := "()V" } : Jvm.MethodName)) ∈ lw_all := lw_g (lw_at lw_m2 93 rfl) rfl
theorem q366 : (Jvm.Cond.lays "java/lang/UnsupportedOperationException" "java/lang/Throwable" "depth" "I") ∈ lw_all := lw_g (lw_at lw_m2 94 rfl) rfl
theorem q367 : (Jvm.Cond.superclass "java/lang/UnsupportedOperationException" "java/lang/RuntimeException") ∈ lw_all := lw_g (lw_at lw_m2 95 rfl) rfl
theorem q1103 : (Jvm.Cond.castable "java/lang/UnsupportedOperationException" "java/lang/Object") ∈ lw_tbl := lw_at lw_m5 111 rfl
theorem in_J4 : ∀ w ∈ wsJ40, w ∈ lw_all := lw_in wsJ40 [357, 358, 359, 360, 361, 366] (by decide +kernel) (by decide +kernel)
theorem q43 : (Jvm.Cond.initialized "java/lang/IndexOutOfBoundsException") ∈ lw_all := lw_g (lw_at lw_m1 11 rfl) rfl
theorem q113 : (Jvm.Cond.selects "java/lang/IndexOutOfBoundsException" ({ cls := "java/lang/Throwable", name := "fillInStackTrace", desc := "()Ljava/lang/Throwable;" } : Jvm.MethodName) ({ cls := "java/lang/Throwable", name := "fillInStackTrace", desc := "()Ljava/lang/Throwable;" } : Jvm.MethodName)) ∈ lw_all := lw_g (lw_at lw_m1 81 rfl) rfl
theorem q403 : (Jvm.Cond.instanceMethod ({ cls := "java/lang/IndexOutOfBoundsException", name := "<init>", desc := "(Ljava/lang/String;)V" } : Jvm.MethodName)) ∈ lw_all := lw_g (lw_at lw_m2 131 rfl) rfl
theorem q404 : (Jvm.Cond.code ({ cls := "java/lang/IndexOutOfBoundsException", name := "<init>", desc := "(Ljava/lang/String;)V" } : Jvm.MethodName) prog_13_method_2_code (2 : Nat) (Option.none : Option Jvm.ClassFile.FieldType)) ∈ lw_all := lw_g (lw_at lw_m2 132 rfl) rfl
theorem q405 : (Jvm.Cond.methodLink "java/lang/IndexOutOfBoundsException" (7 : Nat) ({ cls := "java/lang/RuntimeException", name := "<init>", desc := "(Ljava/lang/String;)V" } : Jvm.MethodName)) ∈ lw_all := lw_g (lw_at lw_m2 133 rfl) rfl
theorem q422 : (Jvm.Cond.declares ({ cls := "java/lang/IndexOutOfBoundsException", name := "<init>", desc := "()V" } : Jvm.MethodName)) ∈ lw_tbl := lw_at lw_m2 150 rfl
theorem q423 : (Jvm.Cond.declares ({ cls := "java/lang/IndexOutOfBoundsException", name := "<init>", desc := "(Ljava/lang/String;)V" } : Jvm.MethodName)) ∈ lw_tbl := lw_at lw_m2 151 rfl
theorem q443 : (Jvm.Cond.instantiable "java/lang/IndexOutOfBoundsException" (6 : Nat)) ∈ lw_all := lw_g (lw_at lw_m2 171 rfl) rfl
theorem q444 : (Jvm.Cond.castable "java/lang/IndexOutOfBoundsException" "java/lang/IndexOutOfBoundsException") ∈ lw_tbl := lw_at lw_m2 172 rfl
theorem q445 : (Jvm.Cond.selects "java/lang/IndexOutOfBoundsException" ({ cls := "java/lang/Throwable", name := "fillInStackTrace", desc := "(I)Ljava/lang/Throwable;" } : Jvm.MethodName) ({ cls := "java/lang/Throwable", name := "fillInStackTrace", desc := "(I)Ljava/lang/Throwable;" } : Jvm.MethodName)) ∈ lw_all := lw_g (lw_at lw_m2 173 rfl) rfl
theorem q446 : (Jvm.Cond.lays "java/lang/IndexOutOfBoundsException" "java/lang/Throwable" "cause" "Ljava/lang/Throwable;") ∈ lw_all := lw_g (lw_at lw_m2 174 rfl) rfl
theorem q447 : (Jvm.Cond.lays "java/lang/IndexOutOfBoundsException" "java/lang/Throwable" "stackTrace" "[Ljava/lang/StackTraceElement;") ∈ lw_all := lw_g (lw_at lw_m2 175 rfl) rfl
theorem q448 : (Jvm.Cond.lays "java/lang/IndexOutOfBoundsException" "java/lang/Throwable" "suppressedExceptions" "Ljava/util/List;") ∈ lw_all := lw_g (lw_at lw_m2 176 rfl) rfl
theorem q449 : (Jvm.Cond.lays "java/lang/IndexOutOfBoundsException" "java/lang/Throwable" "detailMessage" "Ljava/lang/String;") ∈ lw_all := lw_g (lw_at lw_m2 177 rfl) rfl
theorem q450 : (Jvm.Cond.lays "java/lang/IndexOutOfBoundsException" "java/lang/Throwable" "backtrace" "Ljava/lang/Object;") ∈ lw_all := lw_g (lw_at lw_m2 178 rfl) rfl
theorem q452 : (Jvm.Cond.instanceMethod ({ cls := "java/lang/IndexOutOfBoundsException", name := "<init>", desc := "()V" } : Jvm.MethodName)) ∈ lw_all := lw_g (lw_at lw_m2 180 rfl) rfl
theorem q453 : (Jvm.Cond.code ({ cls := "java/lang/IndexOutOfBoundsException", name := "<init>", desc := "()V" } : Jvm.MethodName) prog_13_method_1_code (1 : Nat) (Option.none : Option Jvm.ClassFile.FieldType)) ∈ lw_all := lw_g (lw_at lw_m2 181 rfl) rfl
theorem q454 : (Jvm.Cond.methodLink "java/lang/IndexOutOfBoundsException" (1 : Nat) ({ cls := "java/lang/RuntimeException", name := "<init>", desc := "()V" } : Jvm.MethodName)) ∈ lw_all := lw_g (lw_at lw_m2 182 rfl) rfl
theorem q455 : (Jvm.Cond.lays "java/lang/IndexOutOfBoundsException" "java/lang/Throwable" "depth" "I") ∈ lw_all := lw_g (lw_at lw_m2 183 rfl) rfl
theorem q456 : (Jvm.Cond.superclass "java/lang/IndexOutOfBoundsException" "java/lang/RuntimeException") ∈ lw_all := lw_g (lw_at lw_m2 184 rfl) rfl
theorem q1106 : (Jvm.Cond.castable "java/lang/IndexOutOfBoundsException" "java/lang/Object") ∈ lw_tbl := lw_at lw_m5 114 rfl
theorem in_J5 : ∀ w ∈ wsJ50, w ∈ lw_all := lw_in wsJ50 [446, 447, 448, 449, 450, 455] (by decide +kernel) (by decide +kernel)
theorem q44 : (Jvm.Cond.initialized "java/lang/ArrayIndexOutOfBoundsException") ∈ lw_all := lw_g (lw_at lw_m1 12 rfl) rfl
theorem q110 : (Jvm.Cond.selects "java/lang/ArrayIndexOutOfBoundsException" ({ cls := "java/lang/Throwable", name := "fillInStackTrace", desc := "()Ljava/lang/Throwable;" } : Jvm.MethodName) ({ cls := "java/lang/Throwable", name := "fillInStackTrace", desc := "()Ljava/lang/Throwable;" } : Jvm.MethodName)) ∈ lw_all := lw_g (lw_at lw_m1 78 rfl) rfl
theorem q399 : (Jvm.Cond.instantiable "java/lang/ArrayIndexOutOfBoundsException" (6 : Nat)) ∈ lw_all := lw_g (lw_at lw_m2 127 rfl) rfl
theorem q400 : (Jvm.Cond.instanceMethod ({ cls := "java/lang/ArrayIndexOutOfBoundsException", name := "<init>", desc := "(Ljava/lang/String;)V" } : Jvm.MethodName)) ∈ lw_all := lw_g (lw_at lw_m2 128 rfl) rfl
theorem q401 : (Jvm.Cond.code ({ cls := "java/lang/ArrayIndexOutOfBoundsException", name := "<init>", desc := "(Ljava/lang/String;)V" } : Jvm.MethodName) prog_9_method_2_code (2 : Nat) (Option.none : Option Jvm.ClassFile.FieldType)) ∈ lw_all := lw_g (lw_at lw_m2 129 rfl) rfl
theorem q402 : (Jvm.Cond.methodLink "java/lang/ArrayIndexOutOfBoundsException" (7 : Nat) ({ cls := "java/lang/IndexOutOfBoundsException", name := "<init>", desc := "(Ljava/lang/String;)V" } : Jvm.MethodName)) ∈ lw_all := lw_g (lw_at lw_m2 130 rfl) rfl
theorem q414 : (Jvm.Cond.lays "java/lang/ArrayIndexOutOfBoundsException" "java/lang/Throwable" "backtrace" "Ljava/lang/Object;") ∈ lw_all := lw_g (lw_at lw_m2 142 rfl) rfl
theorem q415 : (Jvm.Cond.lays "java/lang/ArrayIndexOutOfBoundsException" "java/lang/Throwable" "detailMessage" "Ljava/lang/String;") ∈ lw_all := lw_g (lw_at lw_m2 143 rfl) rfl
theorem q416 : (Jvm.Cond.lays "java/lang/ArrayIndexOutOfBoundsException" "java/lang/Throwable" "cause" "Ljava/lang/Throwable;") ∈ lw_all := lw_g (lw_at lw_m2 144 rfl) rfl
theorem q417 : (Jvm.Cond.lays "java/lang/ArrayIndexOutOfBoundsException" "java/lang/Throwable" "stackTrace" "[Ljava/lang/StackTraceElement;") ∈ lw_all := lw_g (lw_at lw_m2 145 rfl) rfl
theorem q418 : (Jvm.Cond.lays "java/lang/ArrayIndexOutOfBoundsException" "java/lang/Throwable" "depth" "I") ∈ lw_all := lw_g (lw_at lw_m2 146 rfl) rfl
theorem q419 : (Jvm.Cond.lays "java/lang/ArrayIndexOutOfBoundsException" "java/lang/Throwable" "suppressedExceptions" "Ljava/util/List;") ∈ lw_all := lw_g (lw_at lw_m2 147 rfl) rfl
theorem q420 : (Jvm.Cond.superclass "java/lang/ArrayIndexOutOfBoundsException" "java/lang/IndexOutOfBoundsException") ∈ lw_all := lw_g (lw_at lw_m2 148 rfl) rfl
theorem q421 : (Jvm.Cond.castable "java/lang/ArrayIndexOutOfBoundsException" "java/lang/ArrayIndexOutOfBoundsException") ∈ lw_tbl := lw_at lw_m2 149 rfl
theorem q424 : (Jvm.Cond.selects "java/lang/ArrayIndexOutOfBoundsException" ({ cls := "java/lang/Throwable", name := "fillInStackTrace", desc := "(I)Ljava/lang/Throwable;" } : Jvm.MethodName) ({ cls := "java/lang/Throwable", name := "fillInStackTrace", desc := "(I)Ljava/lang/Throwable;" } : Jvm.MethodName)) ∈ lw_all := lw_g (lw_at lw_m2 152 rfl) rfl
theorem q1097 : (Jvm.Cond.castable "java/lang/ArrayIndexOutOfBoundsException" "java/lang/IndexOutOfBoundsException") ∈ lw_tbl := lw_at lw_m5 105 rfl
theorem q1105 : (Jvm.Cond.castable "java/lang/ArrayIndexOutOfBoundsException" "java/lang/Object") ∈ lw_tbl := lw_at lw_m5 113 rfl
theorem in_J6 : ∀ w ∈ wsJ60, w ∈ lw_all := lw_in wsJ60 [414, 415, 416, 417, 418, 419] (by decide +kernel) (by decide +kernel)
theorem q45 : (Jvm.Cond.initialized "java/lang/String") ∈ lw_all := lw_g (lw_at lw_m1 13 rfl) rfl
theorem q425 : (Jvm.Cond.instantiable "java/lang/String" (4 : Nat)) ∈ lw_all := lw_g (lw_at lw_m2 153 rfl) rfl
theorem q426 : (Jvm.Cond.laysFinal "java/lang/String" "java/lang/String" "value" "[B") ∈ lw_all := lw_g (lw_at lw_m2 154 rfl) rfl
theorem q427 : (Jvm.Cond.soleField "java/lang/String" "value") ∈ lw_all := lw_g (lw_at lw_m2 155 rfl) rfl
theorem q428 : (Jvm.Cond.laysFinal "java/lang/String" "java/lang/String" "coder" "B") ∈ lw_all := lw_g (lw_at lw_m2 156 rfl) rfl
theorem q429 : (Jvm.Cond.soleField "java/lang/String" "coder") ∈ lw_all := lw_g (lw_at lw_m2 157 rfl) rfl
theorem q696 : (Jvm.Cond.instanceMethod ({ cls := "java/lang/String", name := "length", desc := "()I" } : Jvm.MethodName)) ∈ lw_all := lw_g (lw_at lw_m3 184 rfl) rfl
theorem q697 : (Jvm.Cond.selects "java/lang/String" ({ cls := "java/lang/String", name := "length", desc := "()I" } : Jvm.MethodName) ({ cls := "java/lang/String", name := "length", desc := "()I" } : Jvm.MethodName)) ∈ lw_all := lw_g (lw_at lw_m3 185 rfl) rfl
theorem q698 : (Jvm.Cond.code ({ cls := "java/lang/String", name := "length", desc := "()I" } : Jvm.MethodName) prog_16_method_54_code (1 : Nat) (Option.some Jvm.ClassFile.FieldType.int)) ∈ lw_all := lw_g (lw_at lw_m3 186 rfl) rfl
theorem q699 : (Jvm.Cond.methodLink "java/lang/String" (335 : Nat) ({ cls := "java/lang/String", name := "coder", desc := "()B" } : Jvm.MethodName)) ∈ lw_all := lw_g (lw_at lw_m3 187 rfl) rfl
theorem q700 : (Jvm.Cond.instanceMethod ({ cls := "java/lang/String", name := "coder", desc := "()B" } : Jvm.MethodName)) ∈ lw_all := lw_g (lw_at lw_m3 188 rfl) rfl
theorem q701 : (Jvm.Cond.selects "java/lang/String" ({ cls := "java/lang/String", name := "coder", desc := "()B" } : Jvm.MethodName) ({ cls := "java/lang/String", name := "coder", desc := "()B" } : Jvm.MethodName)) ∈ lw_all := lw_g (lw_at lw_m3 189 rfl) rfl
theorem q702 : (Jvm.Cond.code ({ cls := "java/lang/String", name := "coder", desc := "()B" } : Jvm.MethodName) prog_16_method_152_code (1 : Nat) (Option.some Jvm.ClassFile.FieldType.byte)) ∈ lw_all := lw_g (lw_at lw_m3 190 rfl) rfl
theorem q703 : (Jvm.Cond.fieldLink "java/lang/String" (38 : Nat) "java/lang/String" "COMPACT_STRINGS" "Z") ∈ lw_all := lw_g (lw_at lw_m3 191 rfl) rfl
theorem q704 : (Jvm.Cond.laysStatic "java/lang/String" "COMPACT_STRINGS" "Z") ∈ lw_tbl := lw_at lw_m3 192 rfl
theorem q706 : (Jvm.Cond.instanceMethod ({ cls := "java/lang/String", name := "charAt", desc := "(I)C" } : Jvm.MethodName)) ∈ lw_all := lw_g (lw_at lw_m3 194 rfl) rfl
theorem q707 : (Jvm.Cond.selects "java/lang/String" ({ cls := "java/lang/String", name := "charAt", desc := "(I)C" } : Jvm.MethodName) ({ cls := "java/lang/String", name := "charAt", desc := "(I)C" } : Jvm.MethodName)) ∈ lw_all := lw_g (lw_at lw_m3 195 rfl) rfl
theorem q708 : (Jvm.Cond.code ({ cls := "java/lang/String", name := "charAt", desc := "(I)C" } : Jvm.MethodName) prog_16_method_56_code (2 : Nat) (Option.some Jvm.ClassFile.FieldType.char)) ∈ lw_all := lw_g (lw_at lw_m3 196 rfl) rfl
theorem q709 : (Jvm.Cond.methodLink "java/lang/String" (492 : Nat) ({ cls := "java/lang/String", name := "isLatin1", desc := "()Z" } : Jvm.MethodName)) ∈ lw_all := lw_g (lw_at lw_m3 197 rfl) rfl
theorem q710 : (Jvm.Cond.instanceMethod ({ cls := "java/lang/String", name := "isLatin1", desc := "()Z" } : Jvm.MethodName)) ∈ lw_all := lw_g (lw_at lw_m3 198 rfl) rfl
theorem q711 : (Jvm.Cond.selects "java/lang/String" ({ cls := "java/lang/String", name := "isLatin1", desc := "()Z" } : Jvm.MethodName) ({ cls := "java/lang/String", name := "isLatin1", desc := "()Z" } : Jvm.MethodName)) ∈ lw_all := lw_g (lw_at lw_m3 199 rfl) rfl
theorem q712 : (Jvm.Cond.code ({ cls := "java/lang/String", name := "isLatin1", desc := "()Z" } : Jvm.MethodName) prog_16_method_154_code (1 : Nat) (Option.some Jvm.ClassFile.FieldType.boolean)) ∈ lw_all := lw_g (lw_at lw_m3 200 rfl) rfl
theorem q713 : (Jvm.Cond.methodLink "java/lang/String" (495 : Nat) ({ cls := "java/lang/StringLatin1", name := "charAt", desc := "([BI)C" } : Jvm.MethodName)) ∈ lw_all := lw_g (lw_at lw_m3 201 rfl) rfl
theorem q717 : (Jvm.Cond.static ({ cls := "java/lang/String", name := "checkIndex", desc := "(II)V" } : Jvm.MethodName)) ∈ lw_all := lw_g (lw_at lw_m3 205 rfl) rfl
theorem q718 : (Jvm.Cond.code ({ cls := "java/lang/String", name := "checkIndex", desc := "(II)V" } : Jvm.MethodName) prog_16_method_155_code (2 : Nat) (Option.none : Option Jvm.ClassFile.FieldType)) ∈ lw_all := lw_g (lw_at lw_m3 206 rfl) rfl
theorem q719 : (Jvm.Cond.fieldLink "java/lang/String" (1053 : Nat) "jdk/internal/util/Preconditions" "SIOOBE_FORMATTER" "Ljava/util/function/BiFunction;") ∈ lw_all := lw_g (lw_at lw_m3 207 rfl) rfl
theorem q721 : (Jvm.Cond.methodLink "java/lang/String" (1059 : Nat) ({ cls := "jdk/internal/util/Preconditions", name := "checkIndex", desc := "(IILjava/util/function/BiFunction;)I" } : Jvm.MethodName)) ∈ lw_all := lw_g (lw_at lw_m3 209 rfl) rfl
theorem q724 : (Jvm.Cond.methodLink "java/lang/String" (498 : Nat) ({ cls := "java/lang/StringUTF16", name := "charAt", desc := "([BI)C" } : Jvm.MethodName)) ∈ lw_all := lw_g (lw_at lw_m3 212 rfl) rfl
theorem q1112 : (Jvm.Cond.castable "java/lang/String" "java/lang/Object") ∈ lw_tbl := lw_at lw_m5 120 rfl
theorem q1113 : (Jvm.Cond.fieldLink "java/lang/String" (9 : Nat) "java/lang/String" "value" "[B") ∈ lw_all := lw_g (lw_at lw_m5 121 rfl) rfl
theorem q1114 : (Jvm.Cond.fieldLink "java/lang/String" (15 : Nat) "java/lang/String" "coder" "B") ∈ lw_all := lw_g (lw_at lw_m5 122 rfl) rfl
theorem in_J7 : ∀ w ∈ wsJ70, w ∈ lw_all := lw_in wsJ70 [426, 428] (by decide +kernel) (by decide +kernel)
theorem q46 : (Jvm.Cond.initialized "java/lang/IllegalStateException") ∈ lw_all := lw_g (lw_at lw_m1 14 rfl) rfl
theorem q112 : (Jvm.Cond.selects "java/lang/IllegalStateException" ({ cls := "java/lang/Throwable", name := "fillInStackTrace", desc := "()Ljava/lang/Throwable;" } : Jvm.MethodName) ({ cls := "java/lang/Throwable", name := "fillInStackTrace", desc := "()Ljava/lang/Throwable;" } : Jvm.MethodName)) ∈ lw_all := lw_g (lw_at lw_m1 80 rfl) rfl
theorem q461 : (Jvm.Cond.instantiable "java/lang/IllegalStateException" (6 : Nat)) ∈ lw_all := lw_g (lw_at lw_m2 189 rfl) rfl
theorem q462 : (Jvm.Cond.castable "java/lang/IllegalStateException" "java/lang/IllegalStateException") ∈ lw_tbl := lw_at lw_m2 190 rfl
theorem q463 : (Jvm.Cond.selects "java/lang/IllegalStateException" ({ cls := "java/lang/Throwable", name := "fillInStackTrace", desc := "(I)Ljava/lang/Throwable;" } : Jvm.MethodName) ({ cls := "java/lang/Throwable", name := "fillInStackTrace", desc := "(I)Ljava/lang/Throwable;" } : Jvm.MethodName)) ∈ lw_all := lw_g (lw_at lw_m2 191 rfl) rfl
theorem q464 : (Jvm.Cond.lays "java/lang/IllegalStateException" "java/lang/Throwable" "cause" "Ljava/lang/Throwable;") ∈ lw_all := lw_g (lw_at lw_m2 192 rfl) rfl
theorem q465 : (Jvm.Cond.lays "java/lang/IllegalStateException" "java/lang/Throwable" "stackTrace" "[Ljava/lang/StackTraceElement;") ∈ lw_all := lw_g (lw_at lw_m2 193 rfl) rfl
theorem q466 : (Jvm.Cond.lays "java/lang/IllegalStateException" "java/lang/Throwable" "suppressedExceptions" "Ljava/util/List;") ∈ lw_all := lw_g (lw_at lw_m2 194 rfl) rfl
theorem q467 : (Jvm.Cond.lays "java/lang/IllegalStateException" "java/lang/Throwable" "detailMessage" "Ljava/lang/String;") ∈ lw_all := lw_g (lw_at lw_m2 195 rfl) rfl
theorem q468 : (Jvm.Cond.lays "java/lang/IllegalStateException" "java/lang/Throwable" "backtrace" "Ljava/lang/Object;") ∈ lw_all := lw_g (lw_at lw_m2 196 rfl) rfl
theorem q470 : (Jvm.Cond.instanceMethod ({ cls := "java/lang/IllegalStateException", name := "<init>", desc := "()V" } : Jvm.MethodName)) ∈ lw_all := lw_g (lw_at lw_m2 198 rfl) rfl
theorem q471 : (Jvm.Cond.code ({ cls := "java/lang/IllegalStateException", name := "<init>", desc := "()V" } : Jvm.MethodName) prog_12_method_1_code (1 : Nat) (Option.none : Option Jvm.ClassFile.FieldType)) ∈ lw_all := lw_g (lw_at lw_m2 199 rfl) rfl
theorem q472 : (Jvm.Cond.methodLink "java/lang/IllegalStateException" (1 : Nat) ({ cls := "java/lang/RuntimeException", name := "<init>", desc := "()V" } : Jvm.MethodName)) ∈ lw_all := lw_g (lw_at lw_m2 200 rfl) rfl
theorem q473 : (Jvm.Cond.lays "java/lang/IllegalStateException" "java/lang/Throwable" "depth" "I") ∈ lw_all := lw_g (lw_at lw_m2 201 rfl) rfl
theorem q474 : (Jvm.Cond.superclass "java/lang/IllegalStateException" "java/lang/RuntimeException") ∈ lw_all := lw_g (lw_at lw_m2 202 rfl) rfl
theorem q1107 : (Jvm.Cond.castable "java/lang/IllegalStateException" "java/lang/Object") ∈ lw_tbl := lw_at lw_m5 115 rfl
theorem in_J8 : ∀ w ∈ wsJ80, w ∈ lw_all := lw_in wsJ80 [464, 465, 466, 467, 468, 473] (by decide +kernel) (by decide +kernel)
theorem q48 : (Jvm.Cond.initialized "java/lang/Math") ∈ lw_all := lw_g (lw_at lw_m1 16 rfl) rfl
theorem q267 : (Jvm.Cond.static ({ cls := "java/lang/Math", name := "max", desc := "(II)I" } : Jvm.MethodName)) ∈ lw_all := lw_g (lw_at lw_m1 235 rfl) rfl
theorem q268 : (Jvm.Cond.code ({ cls := "java/lang/Math", name := "max", desc := "(II)I" } : Jvm.MethodName) prog_14_method_65_code (2 : Nat) (Option.some Jvm.ClassFile.FieldType.int)) ∈ lw_all := lw_g (lw_at lw_m1 236 rfl) rfl
theorem q270 : (Jvm.Cond.static ({ cls := "java/lang/Math", name := "min", desc := "(II)I" } : Jvm.MethodName)) ∈ lw_all := lw_g (lw_at lw_m1 238 rfl) rfl
theorem q271 : (Jvm.Cond.code ({ cls := "java/lang/Math", name := "min", desc := "(II)I" } : Jvm.MethodName) prog_14_method_69_code (2 : Nat) (Option.some Jvm.ClassFile.FieldType.int)) ∈ lw_all := lw_g (lw_at lw_m1 239 rfl) rfl
theorem q306 : (Jvm.Cond.static ({ cls := "java/lang/Math", name := "abs", desc := "(I)I" } : Jvm.MethodName)) ∈ lw_all := lw_g (lw_at lw_m2 34 rfl) rfl
theorem q307 : (Jvm.Cond.code ({ cls := "java/lang/Math", name := "abs", desc := "(I)I" } : Jvm.MethodName) prog_14_method_59_code (1 : Nat) (Option.some Jvm.ClassFile.FieldType.int)) ∈ lw_all := lw_g (lw_at lw_m2 35 rfl) rfl
theorem q32 : (Jvm.Cond.initialized "DesertChannelsLaw") ∈ lw_all := lw_g (lw_at lw_m1 0 rfl) rfl
theorem q55 : (Jvm.Cond.classLink "DesertChannelsLaw" (8 : Nat) "DesertChannels") ∈ lw_all := lw_g (lw_at lw_m1 23 rfl) rfl
theorem q57 : (Jvm.Cond.methodLink "DesertChannelsLaw" (89 : Nat) ({ cls := "DesertChannels", name := "<init>", desc := "()V" } : Jvm.MethodName)) ∈ lw_all := lw_g (lw_at lw_m1 25 rfl) rfl
theorem q242 : (Jvm.Cond.methodLink "DesertChannelsLaw" (93 : Nat) ({ cls := "DesertChannels", name := "feed", desc := "(IIIII)I" } : Jvm.MethodName)) ∈ lw_all := lw_g (lw_at lw_m1 210 rfl) rfl
theorem q250 : (Jvm.Cond.methodLink "DesertChannelsLaw" (98 : Nat) ({ cls := "DesertChannels", name := "end", desc := "(I)Z" } : Jvm.MethodName)) ∈ lw_all := lw_g (lw_at lw_m1 218 rfl) rfl
theorem q257 : (Jvm.Cond.methodLink "DesertChannelsLaw" (167 : Nat) ({ cls := "DesertChannels", name := "fault", desc := "()I" } : Jvm.MethodName)) ∈ lw_all := lw_g (lw_at lw_m1 225 rfl) rfl
theorem q261 : (Jvm.Cond.methodLink "DesertChannelsLaw" (180 : Nat) ({ cls := "DesertChannels", name := "least", desc := "()I" } : Jvm.MethodName)) ∈ lw_all := lw_g (lw_at lw_m1 229 rfl) rfl
theorem q272 : (Jvm.Cond.methodLink "DesertChannelsLaw" (184 : Nat) ({ cls := "DesertChannels", name := "count", desc := "(I)I" } : Jvm.MethodName)) ∈ lw_all := lw_g (lw_at lw_m2 0 rfl) rfl
theorem q310 : (Jvm.Cond.methodLink "DesertChannelsLaw" (102 : Nat) ({ cls := "DesertChannelsLaw", name := "ground", desc := "(LDesertChannels;II)I" } : Jvm.MethodName)) ∈ lw_all := lw_g (lw_at lw_m2 38 rfl) rfl
theorem q311 : (Jvm.Cond.static ({ cls := "DesertChannelsLaw", name := "ground", desc := "(LDesertChannels;II)I" } : Jvm.MethodName)) ∈ lw_all := lw_g (lw_at lw_m2 39 rfl) rfl
theorem q312 : (Jvm.Cond.codeWith ({ cls := "DesertChannelsLaw", name := "ground", desc := "(LDesertChannels;II)I" } : Jvm.MethodName) method_3_code (4 : Nat) (Option.some Jvm.ClassFile.FieldType.int) [((0 : Nat), (6 : Nat), (9 : Nat), (13 : Nat))]) ∈ lw_all := lw_g (lw_at lw_m2 40 rfl) rfl
theorem q313 : (Jvm.Cond.classLink "DesertChannelsLaw" (13 : Nat) "java/lang/IllegalArgumentException") ∈ lw_all := lw_g (lw_at lw_m2 41 rfl) rfl
theorem q314 : (Jvm.Cond.methodLink "DesertChannelsLaw" (7 : Nat) ({ cls := "DesertChannels", name := "ground", desc := "(II)V" } : Jvm.MethodName)) ∈ lw_all := lw_g (lw_at lw_m2 42 rfl) rfl
theorem q342 : (Jvm.Cond.methodLink "DesertChannelsLaw" (111 : Nat) ({ cls := "DesertChannelsLaw", name := "channel", desc := "(LDesertChannels;[J)I" } : Jvm.MethodName)) ∈ lw_all := lw_g (lw_at lw_m2 70 rfl) rfl
theorem q343 : (Jvm.Cond.static ({ cls := "DesertChannelsLaw", name := "channel", desc := "(LDesertChannels;[J)I" } : Jvm.MethodName)) ∈ lw_all := lw_g (lw_at lw_m2 71 rfl) rfl
theorem q344 : (Jvm.Cond.codeWith ({ cls := "DesertChannelsLaw", name := "channel", desc := "(LDesertChannels;[J)I" } : Jvm.MethodName) method_4_code (3 : Nat) (Option.some Jvm.ClassFile.FieldType.int) [((0 : Nat), (8 : Nat), (11 : Nat), (19 : Nat))]) ∈ lw_all := lw_g (lw_at lw_m2 72 rfl) rfl
theorem q345 : (Jvm.Cond.classLink "DesertChannelsLaw" (19 : Nat) "java/lang/UnsupportedOperationException") ∈ lw_all := lw_g (lw_at lw_m2 73 rfl) rfl
theorem q346 : (Jvm.Cond.methodLink "DesertChannelsLaw" (15 : Nat) ({ cls := "DesertChannels", name := "channel", desc := "()I" } : Jvm.MethodName)) ∈ lw_all := lw_g (lw_at lw_m2 74 rfl) rfl
theorem q395 : (Jvm.Cond.methodLink "DesertChannelsLaw" (115 : Nat) ({ cls := "DesertChannelsLaw", name := "well", desc := "(LDesertChannels;IIII[J)I" } : Jvm.MethodName)) ∈ lw_all := lw_g (lw_at lw_m2 123 rfl) rfl
theorem q396 : (Jvm.Cond.static ({ cls := "DesertChannelsLaw", name := "well", desc := "(LDesertChannels;IIII[J)I" } : Jvm.MethodName)) ∈ lw_all := lw_g (lw_at lw_m2 124 rfl) rfl
theorem q397 : (Jvm.Cond.codeWith ({ cls := "DesertChannelsLaw", name := "well", desc := "(LDesertChannels;IIII[J)I" } : Jvm.MethodName) method_5_code (7 : Nat) (Option.some Jvm.ClassFile.FieldType.int) [((0 : Nat), (14 : Nat), (17 : Nat), (25 : Nat)), ((0 : Nat), (14 : Nat), (21 : Nat), (27 : Nat)), ((0 : Nat), (14 : Nat), (25 : Nat), (13 : Nat)), ((0 : Nat), (14 : Nat), (29 : Nat), (19 : Nat))]) ∈ lw_all := lw_g (lw_at lw_m2 125 rfl) rfl
theorem q398 : (Jvm.Cond.classLink "DesertChannelsLaw" (25 : Nat) "java/lang/IndexOutOfBoundsException") ∈ lw_all := lw_g (lw_at lw_m2 126 rfl) rfl
theorem q430 : (Jvm.Cond.classLink "DesertChannelsLaw" (27 : Nat) "java/lang/IllegalStateException") ∈ lw_all := lw_g (lw_at lw_m2 158 rfl) rfl
theorem q431 : (Jvm.Cond.methodLink "DesertChannelsLaw" (21 : Nat) ({ cls := "DesertChannels", name := "well", desc := "(IIII)I" } : Jvm.MethodName)) ∈ lw_all := lw_g (lw_at lw_m2 159 rfl) rfl
theorem q497 : (Jvm.Cond.methodLink "DesertChannelsLaw" (119 : Nat) ({ cls := "DesertChannelsLaw", name := "may", desc := "(LDesertChannels;I[J)I" } : Jvm.MethodName)) ∈ lw_all := lw_g (lw_at lw_m2 225 rfl) rfl
theorem q498 : (Jvm.Cond.static ({ cls := "DesertChannelsLaw", name := "may", desc := "(LDesertChannels;I[J)I" } : Jvm.MethodName)) ∈ lw_all := lw_g (lw_at lw_m2 226 rfl) rfl
theorem q499 : (Jvm.Cond.codeWith ({ cls := "DesertChannelsLaw", name := "may", desc := "(LDesertChannels;I[J)I" } : Jvm.MethodName) method_6_code (4 : Nat) (Option.some Jvm.ClassFile.FieldType.int) [((0 : Nat), (16 : Nat), (19 : Nat), (25 : Nat)), ((0 : Nat), (16 : Nat), (22 : Nat), (27 : Nat))]) ∈ lw_all := lw_g (lw_at lw_m2 227 rfl) rfl
theorem q500 : (Jvm.Cond.methodLink "DesertChannelsLaw" (29 : Nat) ({ cls := "DesertChannels", name := "may", desc := "(I)Z" } : Jvm.MethodName)) ∈ lw_all := lw_g (lw_at lw_m2 228 rfl) rfl
theorem q509 : (Jvm.Cond.methodLink "DesertChannelsLaw" (123 : Nat) ({ cls := "DesertChannelsLaw", name := "dig", desc := "(LDesertChannels;III[J)I" } : Jvm.MethodName)) ∈ lw_all := lw_g (lw_at lw_m2 237 rfl) rfl
theorem q510 : (Jvm.Cond.static ({ cls := "DesertChannelsLaw", name := "dig", desc := "(LDesertChannels;III[J)I" } : Jvm.MethodName)) ∈ lw_all := lw_g (lw_at lw_m2 238 rfl) rfl
theorem q511 : (Jvm.Cond.codeWith ({ cls := "DesertChannelsLaw", name := "dig", desc := "(LDesertChannels;III[J)I" } : Jvm.MethodName) method_7_code (6 : Nat) (Option.some Jvm.ClassFile.FieldType.int) [((0 : Nat), (12 : Nat), (15 : Nat), (25 : Nat)), ((0 : Nat), (12 : Nat), (19 : Nat), (27 : Nat)), ((0 : Nat), (12 : Nat), (23 : Nat), (13 : Nat))]) ∈ lw_all := lw_g (lw_at lw_m2 239 rfl) rfl
theorem q512 : (Jvm.Cond.methodLink "DesertChannelsLaw" (33 : Nat) ({ cls := "DesertChannels", name := "dig", desc := "(III)I" } : Jvm.MethodName)) ∈ lw_all := lw_g (lw_at lw_m3 0 rfl) rfl
theorem q561 : (Jvm.Cond.methodLink "DesertChannelsLaw" (127 : Nat) ({ cls := "DesertChannelsLaw", name := "years", desc := "(LDesertChannels;I[J)I" } : Jvm.MethodName)) ∈ lw_all := lw_g (lw_at lw_m3 49 rfl) rfl
theorem q562 : (Jvm.Cond.static ({ cls := "DesertChannelsLaw", name := "years", desc := "(LDesertChannels;I[J)I" } : Jvm.MethodName)) ∈ lw_all := lw_g (lw_at lw_m3 50 rfl) rfl
theorem q563 : (Jvm.Cond.codeWith ({ cls := "DesertChannelsLaw", name := "years", desc := "(LDesertChannels;I[J)I" } : Jvm.MethodName) method_8_code (4 : Nat) (Option.some Jvm.ClassFile.FieldType.int) [((0 : Nat), (9 : Nat), (12 : Nat), (13 : Nat))]) ∈ lw_all := lw_g (lw_at lw_m3 51 rfl) rfl
theorem q564 : (Jvm.Cond.methodLink "DesertChannelsLaw" (37 : Nat) ({ cls := "DesertChannels", name := "years", desc := "(I)I" } : Jvm.MethodName)) ∈ lw_all := lw_g (lw_at lw_m3 52 rfl) rfl
theorem q568 : (Jvm.Cond.methodLink "DesertChannelsLaw" (130 : Nat) ({ cls := "DesertChannelsLaw", name := "collapse", desc := "(LDesertChannels;IIZ[J)I" } : Jvm.MethodName)) ∈ lw_all := lw_g (lw_at lw_m3 56 rfl) rfl
theorem q569 : (Jvm.Cond.static ({ cls := "DesertChannelsLaw", name := "collapse", desc := "(LDesertChannels;IIZ[J)I" } : Jvm.MethodName)) ∈ lw_all := lw_g (lw_at lw_m3 57 rfl) rfl
theorem q570 : (Jvm.Cond.codeWith ({ cls := "DesertChannelsLaw", name := "collapse", desc := "(LDesertChannels;IIZ[J)I" } : Jvm.MethodName) method_9_code (6 : Nat) (Option.some Jvm.ClassFile.FieldType.int) [((0 : Nat), (19 : Nat), (22 : Nat), (25 : Nat)), ((0 : Nat), (19 : Nat), (26 : Nat), (27 : Nat))]) ∈ lw_all := lw_g (lw_at lw_m3 58 rfl) rfl
theorem q571 : (Jvm.Cond.methodLink "DesertChannelsLaw" (41 : Nat) ({ cls := "DesertChannels", name := "collapse", desc := "(IIZ)Z" } : Jvm.MethodName)) ∈ lw_all := lw_g (lw_at lw_m3 59 rfl) rfl
theorem q575 : (Jvm.Cond.methodLink "DesertChannelsLaw" (134 : Nat) ({ cls := "DesertChannelsLaw", name := "flow", desc := "(LDesertChannels;I[J)I" } : Jvm.MethodName)) ∈ lw_all := lw_g (lw_at lw_m3 63 rfl) rfl
theorem q576 : (Jvm.Cond.static ({ cls := "DesertChannelsLaw", name := "flow", desc := "(LDesertChannels;I[J)I" } : Jvm.MethodName)) ∈ lw_all := lw_g (lw_at lw_m3 64 rfl) rfl
theorem q577 : (Jvm.Cond.codeWith ({ cls := "DesertChannelsLaw", name := "flow", desc := "(LDesertChannels;I[J)I" } : Jvm.MethodName) method_10_code (4 : Nat) (Option.some Jvm.ClassFile.FieldType.int) [((0 : Nat), (9 : Nat), (12 : Nat), (25 : Nat)), ((0 : Nat), (9 : Nat), (15 : Nat), (27 : Nat))]) ∈ lw_all := lw_g (lw_at lw_m3 65 rfl) rfl
theorem q578 : (Jvm.Cond.methodLink "DesertChannelsLaw" (45 : Nat) ({ cls := "DesertChannels", name := "flow", desc := "(I)I" } : Jvm.MethodName)) ∈ lw_all := lw_g (lw_at lw_m3 66 rfl) rfl
theorem q586 : (Jvm.Cond.methodLink "DesertChannelsLaw" (137 : Nat) ({ cls := "DesertChannelsLaw", name := "harm", desc := "(LDesertChannels;I[J)I" } : Jvm.MethodName)) ∈ lw_all := lw_g (lw_at lw_m3 74 rfl) rfl
theorem q587 : (Jvm.Cond.static ({ cls := "DesertChannelsLaw", name := "harm", desc := "(LDesertChannels;I[J)I" } : Jvm.MethodName)) ∈ lw_all := lw_g (lw_at lw_m3 75 rfl) rfl
theorem q588 : (Jvm.Cond.codeWith ({ cls := "DesertChannelsLaw", name := "harm", desc := "(LDesertChannels;I[J)I" } : Jvm.MethodName) method_11_code (4 : Nat) (Option.some Jvm.ClassFile.FieldType.int) [((0 : Nat), (9 : Nat), (12 : Nat), (25 : Nat)), ((0 : Nat), (9 : Nat), (15 : Nat), (27 : Nat))]) ∈ lw_all := lw_g (lw_at lw_m3 76 rfl) rfl
theorem q589 : (Jvm.Cond.methodLink "DesertChannelsLaw" (48 : Nat) ({ cls := "DesertChannels", name := "harm", desc := "(I)I" } : Jvm.MethodName)) ∈ lw_all := lw_g (lw_at lw_m3 77 rfl) rfl
theorem q593 : (Jvm.Cond.methodLink "DesertChannelsLaw" (140 : Nat) ({ cls := "DesertChannelsLaw", name := "seep", desc := "(LDesertChannels;II[J)I" } : Jvm.MethodName)) ∈ lw_all := lw_g (lw_at lw_m3 81 rfl) rfl
theorem q594 : (Jvm.Cond.static ({ cls := "DesertChannelsLaw", name := "seep", desc := "(LDesertChannels;II[J)I" } : Jvm.MethodName)) ∈ lw_all := lw_g (lw_at lw_m3 82 rfl) rfl
theorem q595 : (Jvm.Cond.codeWith ({ cls := "DesertChannelsLaw", name := "seep", desc := "(LDesertChannels;II[J)I" } : Jvm.MethodName) method_12_code (5 : Nat) (Option.some Jvm.ClassFile.FieldType.int) [((0 : Nat), (10 : Nat), (13 : Nat), (25 : Nat)), ((0 : Nat), (10 : Nat), (17 : Nat), (27 : Nat))]) ∈ lw_all := lw_g (lw_at lw_m3 83 rfl) rfl
theorem q596 : (Jvm.Cond.methodLink "DesertChannelsLaw" (51 : Nat) ({ cls := "DesertChannels", name := "seep", desc := "(II)I" } : Jvm.MethodName)) ∈ lw_all := lw_g (lw_at lw_m3 84 rfl) rfl
theorem q600 : (Jvm.Cond.methodLink "DesertChannelsLaw" (144 : Nat) ({ cls := "DesertChannelsLaw", name := "sell", desc := "(LDesertChannels;IIII)I" } : Jvm.MethodName)) ∈ lw_all := lw_g (lw_at lw_m3 88 rfl) rfl
theorem q601 : (Jvm.Cond.static ({ cls := "DesertChannelsLaw", name := "sell", desc := "(LDesertChannels;IIII)I" } : Jvm.MethodName)) ∈ lw_all := lw_g (lw_at lw_m3 89 rfl) rfl
theorem q602 : (Jvm.Cond.codeWith ({ cls := "DesertChannelsLaw", name := "sell", desc := "(LDesertChannels;IIII)I" } : Jvm.MethodName) method_13_code (6 : Nat) (Option.some Jvm.ClassFile.FieldType.int) [((0 : Nat), (9 : Nat), (12 : Nat), (25 : Nat)), ((0 : Nat), (9 : Nat), (16 : Nat), (27 : Nat)), ((0 : Nat), (9 : Nat), (20 : Nat), (13 : Nat)), ((0 : Nat), (9 : Nat), (24 : Nat), (19 : Nat))]) ∈ lw_all := lw_g (lw_at lw_m3 90 rfl) rfl
theorem q603 : (Jvm.Cond.methodLink "DesertChannelsLaw" (55 : Nat) ({ cls := "DesertChannels", name := "sell", desc := "(IIII)V" } : Jvm.MethodName)) ∈ lw_all := lw_g (lw_at lw_m3 91 rfl) rfl
theorem q615 : (Jvm.Cond.methodLink "DesertChannelsLaw" (148 : Nat) ({ cls := "DesertChannelsLaw", name := "heirs", desc := "(LDesertChannels;IIIIIIIIII[J)I" } : Jvm.MethodName)) ∈ lw_all := lw_g (lw_at lw_m3 103 rfl) rfl
theorem q616 : (Jvm.Cond.static ({ cls := "DesertChannelsLaw", name := "heirs", desc := "(LDesertChannels;IIIIIIIIII[J)I" } : Jvm.MethodName)) ∈ lw_all := lw_g (lw_at lw_m3 104 rfl) rfl
theorem q617 : (Jvm.Cond.codeWith ({ cls := "DesertChannelsLaw", name := "heirs", desc := "(LDesertChannels;IIIIIIIIII[J)I" } : Jvm.MethodName) method_14_code (13 : Nat) (Option.some Jvm.ClassFile.FieldType.int) [((0 : Nat), (26 : Nat), (29 : Nat), (25 : Nat)), ((0 : Nat), (26 : Nat), (33 : Nat), (27 : Nat)), ((0 : Nat), (26 : Nat), (37 : Nat), (13 : Nat)), ((0 : Nat), (26 : Nat), (41 : Nat), (19 : Nat))]) ∈ lw_all := lw_g (lw_at lw_m3 105 rfl) rfl
theorem q618 : (Jvm.Cond.methodLink "DesertChannelsLaw" (59 : Nat) ({ cls := "DesertChannels", name := "heirs", desc := "(IIIIIIIIII)I" } : Jvm.MethodName)) ∈ lw_all := lw_g (lw_at lw_m3 106 rfl) rfl
theorem q622 : (Jvm.Cond.methodLink "DesertChannelsLaw" (152 : Nat) ({ cls := "DesertChannelsLaw", name := "let", desc := "(LDesertChannels;IIII)I" } : Jvm.MethodName)) ∈ lw_all := lw_g (lw_at lw_m3 110 rfl) rfl
theorem q623 : (Jvm.Cond.static ({ cls := "DesertChannelsLaw", name := "let", desc := "(LDesertChannels;IIII)I" } : Jvm.MethodName)) ∈ lw_all := lw_g (lw_at lw_m3 111 rfl) rfl
theorem q624 : (Jvm.Cond.codeWith ({ cls := "DesertChannelsLaw", name := "let", desc := "(LDesertChannels;IIII)I" } : Jvm.MethodName) method_15_code (6 : Nat) (Option.some Jvm.ClassFile.FieldType.int) [((0 : Nat), (9 : Nat), (12 : Nat), (25 : Nat)), ((0 : Nat), (9 : Nat), (16 : Nat), (27 : Nat)), ((0 : Nat), (9 : Nat), (20 : Nat), (13 : Nat))]) ∈ lw_all := lw_g (lw_at lw_m3 112 rfl) rfl
theorem q625 : (Jvm.Cond.methodLink "DesertChannelsLaw" (63 : Nat) ({ cls := "DesertChannels", name := "let", desc := "(IIII)V" } : Jvm.MethodName)) ∈ lw_all := lw_g (lw_at lw_m3 113 rfl) rfl
theorem q630 : (Jvm.Cond.methodLink "DesertChannelsLaw" (155 : Nat) ({ cls := "DesertChannelsLaw", name := "minutes", desc := "(LDesertChannels;I[J)I" } : Jvm.MethodName)) ∈ lw_all := lw_g (lw_at lw_m3 118 rfl) rfl
theorem q631 : (Jvm.Cond.static ({ cls := "DesertChannelsLaw", name := "minutes", desc := "(LDesertChannels;I[J)I" } : Jvm.MethodName)) ∈ lw_all := lw_g (lw_at lw_m3 119 rfl) rfl
theorem q632 : (Jvm.Cond.codeWith ({ cls := "DesertChannelsLaw", name := "minutes", desc := "(LDesertChannels;I[J)I" } : Jvm.MethodName) method_16_code (4 : Nat) (Option.some Jvm.ClassFile.FieldType.int) [((0 : Nat), (9 : Nat), (12 : Nat), (13 : Nat))]) ∈ lw_all := lw_g (lw_at lw_m3 120 rfl) rfl
theorem q633 : (Jvm.Cond.methodLink "DesertChannelsLaw" (66 : Nat) ({ cls := "DesertChannels", name := "minutes", desc := "(I)I" } : Jvm.MethodName)) ∈ lw_all := lw_g (lw_at lw_m3 121 rfl) rfl
theorem q638 : (Jvm.Cond.methodLink "DesertChannelsLaw" (158 : Nat) ({ cls := "DesertChannelsLaw", name := "holder", desc := "(LDesertChannels;II[J)I" } : Jvm.MethodName)) ∈ lw_all := lw_g (lw_at lw_m3 126 rfl) rfl
theorem q639 : (Jvm.Cond.static ({ cls := "DesertChannelsLaw", name := "holder", desc := "(LDesertChannels;II[J)I" } : Jvm.MethodName)) ∈ lw_all := lw_g (lw_at lw_m3 127 rfl) rfl
theorem q640 : (Jvm.Cond.codeWith ({ cls := "DesertChannelsLaw", name := "holder", desc := "(LDesertChannels;II[J)I" } : Jvm.MethodName) method_17_code (5 : Nat) (Option.some Jvm.ClassFile.FieldType.int) [((0 : Nat), (10 : Nat), (13 : Nat), (25 : Nat)), ((0 : Nat), (10 : Nat), (17 : Nat), (13 : Nat))]) ∈ lw_all := lw_g (lw_at lw_m3 128 rfl) rfl
theorem q641 : (Jvm.Cond.methodLink "DesertChannelsLaw" (69 : Nat) ({ cls := "DesertChannels", name := "holder", desc := "(II)I" } : Jvm.MethodName)) ∈ lw_all := lw_g (lw_at lw_m3 129 rfl) rfl
theorem q649 : (Jvm.Cond.methodLink "DesertChannelsLaw" (161 : Nat) ({ cls := "DesertChannelsLaw", name := "share", desc := "(LDesertChannels;II[J)I" } : Jvm.MethodName)) ∈ lw_all := lw_g (lw_at lw_m3 137 rfl) rfl
theorem q650 : (Jvm.Cond.static ({ cls := "DesertChannelsLaw", name := "share", desc := "(LDesertChannels;II[J)I" } : Jvm.MethodName)) ∈ lw_all := lw_g (lw_at lw_m3 138 rfl) rfl
theorem q651 : (Jvm.Cond.codeWith ({ cls := "DesertChannelsLaw", name := "share", desc := "(LDesertChannels;II[J)I" } : Jvm.MethodName) method_18_code (5 : Nat) (Option.some Jvm.ClassFile.FieldType.int) [((0 : Nat), (10 : Nat), (13 : Nat), (25 : Nat)), ((0 : Nat), (10 : Nat), (17 : Nat), (75 : Nat))]) ∈ lw_all := lw_g (lw_at lw_m3 139 rfl) rfl
theorem q652 : (Jvm.Cond.classLink "DesertChannelsLaw" (75 : Nat) "java/util/NoSuchElementException") ∈ lw_all := lw_g (lw_at lw_m3 140 rfl) rfl
theorem q653 : (Jvm.Cond.methodLink "DesertChannelsLaw" (72 : Nat) ({ cls := "DesertChannels", name := "share", desc := "(II)I" } : Jvm.MethodName)) ∈ lw_all := lw_g (lw_at lw_m3 141 rfl) rfl
theorem q672 : (Jvm.Cond.methodLink "DesertChannelsLaw" (164 : Nat) ({ cls := "DesertChannelsLaw", name := "law", desc := "(LDesertChannels;[J)I" } : Jvm.MethodName)) ∈ lw_all := lw_g (lw_at lw_m3 160 rfl) rfl
theorem q673 : (Jvm.Cond.static ({ cls := "DesertChannelsLaw", name := "law", desc := "(LDesertChannels;[J)I" } : Jvm.MethodName)) ∈ lw_all := lw_g (lw_at lw_m3 161 rfl) rfl
theorem q674 : (Jvm.Cond.codeWith ({ cls := "DesertChannelsLaw", name := "law", desc := "(LDesertChannels;[J)I" } : Jvm.MethodName) method_19_code (3 : Nat) (Option.some Jvm.ClassFile.FieldType.int) [((0 : Nat), (8 : Nat), (11 : Nat), (13 : Nat))]) ∈ lw_all := lw_g (lw_at lw_m3 162 rfl) rfl
theorem q675 : (Jvm.Cond.methodLink "DesertChannelsLaw" (77 : Nat) ({ cls := "DesertChannels", name := "law", desc := "()I" } : Jvm.MethodName)) ∈ lw_all := lw_g (lw_at lw_m3 163 rfl) rfl
theorem q753 : (Jvm.Cond.methodLink "DesertChannelsLaw" (171 : Nat) ({ cls := "DesertChannelsLaw", name := "says", desc := "(LDesertChannels;I[J)I" } : Jvm.MethodName)) ∈ lw_all := lw_g (lw_at lw_m4 1 rfl) rfl
theorem q754 : (Jvm.Cond.static ({ cls := "DesertChannelsLaw", name := "says", desc := "(LDesertChannels;I[J)I" } : Jvm.MethodName)) ∈ lw_all := lw_g (lw_at lw_m4 2 rfl) rfl
theorem q755 : (Jvm.Cond.codeWith ({ cls := "DesertChannelsLaw", name := "says", desc := "(LDesertChannels;I[J)I" } : Jvm.MethodName) method_20_code (4 : Nat) (Option.some Jvm.ClassFile.FieldType.int) [((0 : Nat), (9 : Nat), (12 : Nat), (75 : Nat))]) ∈ lw_all := lw_g (lw_at lw_m4 3 rfl) rfl
theorem q756 : (Jvm.Cond.methodLink "DesertChannelsLaw" (80 : Nat) ({ cls := "DesertChannels", name := "says", desc := "(I)I" } : Jvm.MethodName)) ∈ lw_all := lw_g (lw_at lw_m4 4 rfl) rfl
theorem q760 : (Jvm.Cond.methodLink "DesertChannelsLaw" (174 : Nat) ({ cls := "DesertChannelsLaw", name := "pays", desc := "(LDesertChannels;III[J)I" } : Jvm.MethodName)) ∈ lw_all := lw_g (lw_at lw_m4 8 rfl) rfl
theorem q761 : (Jvm.Cond.static ({ cls := "DesertChannelsLaw", name := "pays", desc := "(LDesertChannels;III[J)I" } : Jvm.MethodName)) ∈ lw_all := lw_g (lw_at lw_m4 9 rfl) rfl
theorem q762 : (Jvm.Cond.codeWith ({ cls := "DesertChannelsLaw", name := "pays", desc := "(LDesertChannels;III[J)I" } : Jvm.MethodName) method_21_code (6 : Nat) (Option.some Jvm.ClassFile.FieldType.int) [((0 : Nat), (12 : Nat), (15 : Nat), (25 : Nat)), ((0 : Nat), (12 : Nat), (19 : Nat), (27 : Nat)), ((0 : Nat), (12 : Nat), (23 : Nat), (13 : Nat))]) ∈ lw_all := lw_g (lw_at lw_m4 10 rfl) rfl
theorem q763 : (Jvm.Cond.methodLink "DesertChannelsLaw" (83 : Nat) ({ cls := "DesertChannels", name := "pays", desc := "(III)I" } : Jvm.MethodName)) ∈ lw_all := lw_g (lw_at lw_m4 11 rfl) rfl
theorem q768 : (Jvm.Cond.methodLink "DesertChannelsLaw" (177 : Nat) ({ cls := "DesertChannelsLaw", name := "field", desc := "(LDesertChannels;III[J)I" } : Jvm.MethodName)) ∈ lw_all := lw_g (lw_at lw_m4 16 rfl) rfl
theorem q769 : (Jvm.Cond.static ({ cls := "DesertChannelsLaw", name := "field", desc := "(LDesertChannels;III[J)I" } : Jvm.MethodName)) ∈ lw_all := lw_g (lw_at lw_m4 17 rfl) rfl
theorem q770 : (Jvm.Cond.codeWith ({ cls := "DesertChannelsLaw", name := "field", desc := "(LDesertChannels;III[J)I" } : Jvm.MethodName) method_22_code (6 : Nat) (Option.some Jvm.ClassFile.FieldType.int) [((0 : Nat), (12 : Nat), (15 : Nat), (13 : Nat))]) ∈ lw_all := lw_g (lw_at lw_m4 18 rfl) rfl
theorem q771 : (Jvm.Cond.methodLink "DesertChannelsLaw" (86 : Nat) ({ cls := "DesertChannels", name := "field", desc := "(III)I" } : Jvm.MethodName)) ∈ lw_all := lw_g (lw_at lw_m4 19 rfl) rfl
theorem q775 : (Jvm.Cond.classLink "DesertChannelsLaw" (90 : Nat) "DesertChannelsModel") ∈ lw_all := lw_g (lw_at lw_m4 23 rfl) rfl
theorem q777 : (Jvm.Cond.methodLink "DesertChannelsLaw" (92 : Nat) ({ cls := "DesertChannelsModel", name := "<init>", desc := "()V" } : Jvm.MethodName)) ∈ lw_all := lw_g (lw_at lw_m4 25 rfl) rfl
theorem q891 : (Jvm.Cond.methodLink "DesertChannelsLaw" (108 : Nat) ({ cls := "DesertChannelsModel", name := "thrown", desc := "()I" } : Jvm.MethodName)) ∈ lw_all := lw_g (lw_at lw_m4 139 rfl) rfl
theorem q895 : (Jvm.Cond.methodLink "DesertChannelsLaw" (107 : Nat) ({ cls := "DesertChannelsModel", name := "ground", desc := "(II)V" } : Jvm.MethodName)) ∈ lw_all := lw_g (lw_at lw_m4 143 rfl) rfl
theorem q906 : (Jvm.Cond.methodLink "DesertChannelsLaw" (114 : Nat) ({ cls := "DesertChannelsModel", name := "channel", desc := "()I" } : Jvm.MethodName)) ∈ lw_all := lw_g (lw_at lw_m4 154 rfl) rfl
theorem q910 : (Jvm.Cond.methodLink "DesertChannelsLaw" (118 : Nat) ({ cls := "DesertChannelsModel", name := "well", desc := "(IIII)I" } : Jvm.MethodName)) ∈ lw_all := lw_g (lw_at lw_m4 158 rfl) rfl
theorem q918 : (Jvm.Cond.methodLink "DesertChannelsLaw" (122 : Nat) ({ cls := "DesertChannelsModel", name := "may", desc := "(I)Z" } : Jvm.MethodName)) ∈ lw_all := lw_g (lw_at lw_m4 166 rfl) rfl
theorem q931 : (Jvm.Cond.methodLink "DesertChannelsLaw" (126 : Nat) ({ cls := "DesertChannelsModel", name := "dig", desc := "(III)I" } : Jvm.MethodName)) ∈ lw_all := lw_g (lw_at lw_m4 179 rfl) rfl
theorem q943 : (Jvm.Cond.methodLink "DesertChannelsLaw" (129 : Nat) ({ cls := "DesertChannelsModel", name := "years", desc := "(I)I" } : Jvm.MethodName)) ∈ lw_all := lw_g (lw_at lw_m4 191 rfl) rfl
theorem q947 : (Jvm.Cond.methodLink "DesertChannelsLaw" (133 : Nat) ({ cls := "DesertChannelsModel", name := "collapse", desc := "(IIZ)Z" } : Jvm.MethodName)) ∈ lw_all := lw_g (lw_at lw_m4 195 rfl) rfl
theorem q955 : (Jvm.Cond.methodLink "DesertChannelsLaw" (136 : Nat) ({ cls := "DesertChannelsModel", name := "flow", desc := "(I)I" } : Jvm.MethodName)) ∈ lw_all := lw_g (lw_at lw_m4 203 rfl) rfl
theorem q976 : (Jvm.Cond.methodLink "DesertChannelsLaw" (139 : Nat) ({ cls := "DesertChannelsModel", name := "harm", desc := "(I)I" } : Jvm.MethodName)) ∈ lw_all := lw_g (lw_at lw_m4 224 rfl) rfl
theorem q980 : (Jvm.Cond.methodLink "DesertChannelsLaw" (143 : Nat) ({ cls := "DesertChannelsModel", name := "seep", desc := "(II)I" } : Jvm.MethodName)) ∈ lw_all := lw_g (lw_at lw_m4 228 rfl) rfl
theorem q984 : (Jvm.Cond.methodLink "DesertChannelsLaw" (147 : Nat) ({ cls := "DesertChannelsModel", name := "sell", desc := "(IIII)V" } : Jvm.MethodName)) ∈ lw_all := lw_g (lw_at lw_m4 232 rfl) rfl
theorem q999 : (Jvm.Cond.methodLink "DesertChannelsLaw" (151 : Nat) ({ cls := "DesertChannelsModel", name := "heirs", desc := "(IIIIIIIIII)I" } : Jvm.MethodName)) ∈ lw_all := lw_g (lw_at lw_m5 7 rfl) rfl
theorem q1003 : (Jvm.Cond.methodLink "DesertChannelsLaw" (154 : Nat) ({ cls := "DesertChannelsModel", name := "let", desc := "(IIII)V" } : Jvm.MethodName)) ∈ lw_all := lw_g (lw_at lw_m5 11 rfl) rfl
theorem q1008 : (Jvm.Cond.methodLink "DesertChannelsLaw" (157 : Nat) ({ cls := "DesertChannelsModel", name := "minutes", desc := "(I)I" } : Jvm.MethodName)) ∈ lw_all := lw_g (lw_at lw_m5 16 rfl) rfl
theorem q1013 : (Jvm.Cond.methodLink "DesertChannelsLaw" (160 : Nat) ({ cls := "DesertChannelsModel", name := "holder", desc := "(II)I" } : Jvm.MethodName)) ∈ lw_all := lw_g (lw_at lw_m5 21 rfl) rfl
theorem q1017 : (Jvm.Cond.methodLink "DesertChannelsLaw" (163 : Nat) ({ cls := "DesertChannelsModel", name := "share", desc := "(II)I" } : Jvm.MethodName)) ∈ lw_all := lw_g (lw_at lw_m5 25 rfl) rfl
theorem q1021 : (Jvm.Cond.methodLink "DesertChannelsLaw" (97 : Nat) ({ cls := "DesertChannelsModel", name := "feed", desc := "(IIIII)I" } : Jvm.MethodName)) ∈ lw_all := lw_g (lw_at lw_m5 29 rfl) rfl
theorem q1025 : (Jvm.Cond.methodLink "DesertChannelsLaw" (101 : Nat) ({ cls := "DesertChannelsModel", name := "end", desc := "(I)Z" } : Jvm.MethodName)) ∈ lw_all := lw_g (lw_at lw_m5 33 rfl) rfl
theorem q1029 : (Jvm.Cond.methodLink "DesertChannelsLaw" (166 : Nat) ({ cls := "DesertChannelsModel", name := "law", desc := "()I" } : Jvm.MethodName)) ∈ lw_all := lw_g (lw_at lw_m5 37 rfl) rfl
theorem q1065 : (Jvm.Cond.methodLink "DesertChannelsLaw" (170 : Nat) ({ cls := "DesertChannelsModel", name := "fault", desc := "()I" } : Jvm.MethodName)) ∈ lw_all := lw_g (lw_at lw_m5 73 rfl) rfl
theorem q1069 : (Jvm.Cond.methodLink "DesertChannelsLaw" (173 : Nat) ({ cls := "DesertChannelsModel", name := "says", desc := "(I)I" } : Jvm.MethodName)) ∈ lw_all := lw_g (lw_at lw_m5 77 rfl) rfl
theorem q1073 : (Jvm.Cond.methodLink "DesertChannelsLaw" (176 : Nat) ({ cls := "DesertChannelsModel", name := "pays", desc := "(III)I" } : Jvm.MethodName)) ∈ lw_all := lw_g (lw_at lw_m5 81 rfl) rfl
theorem q1083 : (Jvm.Cond.methodLink "DesertChannelsLaw" (179 : Nat) ({ cls := "DesertChannelsModel", name := "field", desc := "(III)I" } : Jvm.MethodName)) ∈ lw_all := lw_g (lw_at lw_m5 91 rfl) rfl
theorem q1087 : (Jvm.Cond.methodLink "DesertChannelsLaw" (183 : Nat) ({ cls := "DesertChannelsModel", name := "least", desc := "()I" } : Jvm.MethodName)) ∈ lw_all := lw_g (lw_at lw_m5 95 rfl) rfl
theorem q1092 : (Jvm.Cond.methodLink "DesertChannelsLaw" (187 : Nat) ({ cls := "DesertChannelsModel", name := "count", desc := "(I)I" } : Jvm.MethodName)) ∈ lw_all := lw_g (lw_at lw_m5 100 rfl) rfl
theorem q33 : (Jvm.Cond.initialized "DesertChannels") ∈ lw_all := lw_g (lw_at lw_m1 1 rfl) rfl
theorem q56 : (Jvm.Cond.instantiable "DesertChannels" (21 : Nat)) ∈ lw_all := lw_g (lw_at lw_m1 24 rfl) rfl
theorem q58 : (Jvm.Cond.instanceMethod ({ cls := "DesertChannels", name := "<init>", desc := "()V" } : Jvm.MethodName)) ∈ lw_all := lw_g (lw_at lw_m1 26 rfl) rfl
theorem q59 : (Jvm.Cond.code ({ cls := "DesertChannels", name := "<init>", desc := "()V" } : Jvm.MethodName) prog_1_method_1_code (1 : Nat) (Option.none : Option Jvm.ClassFile.FieldType)) ∈ lw_all := lw_g (lw_at lw_m1 27 rfl) rfl
theorem q60 : (Jvm.Cond.methodLink "DesertChannels" (1 : Nat) ({ cls := "java/lang/Object", name := "<init>", desc := "()V" } : Jvm.MethodName)) ∈ lw_all := lw_g (lw_at lw_m1 28 rfl) rfl
theorem q63 : (Jvm.Cond.classLink "DesertChannels" (7 : Nat) "DesertChannels$Reader") ∈ lw_all := lw_g (lw_at lw_m1 31 rfl) rfl
theorem q65 : (Jvm.Cond.methodLinkNest "DesertChannels" (9 : Nat) ({ cls := "DesertChannels$Reader", name := "<init>", desc := "()V" } : Jvm.MethodName) "DesertChannels") ∈ lw_tbl := lw_at lw_m1 33 rfl
theorem q135 : (Jvm.Cond.fieldLinkNest "DesertChannels" (262 : Nat) "DesertChannels$Wrong" "place" "I" "DesertChannels") ∈ lw_tbl := lw_at lw_m1 103 rfl
theorem q153 : (Jvm.Cond.fieldLinkNest "DesertChannels" (104 : Nat) "DesertChannels$Reader" "tape" "[B" "DesertChannels") ∈ lw_tbl := lw_at lw_m1 121 rfl
theorem q156 : (Jvm.Cond.fieldLinkNest "DesertChannels" (108 : Nat) "DesertChannels$Reader" "size" "I" "DesertChannels") ∈ lw_tbl := lw_at lw_m1 124 rfl
theorem q172 : (Jvm.Cond.classLink "DesertChannels" (16 : Nat) "DesertChannels$Channel") ∈ lw_all := lw_g (lw_at lw_m1 140 rfl) rfl
theorem q174 : (Jvm.Cond.classLink "DesertChannels" (22 : Nat) "DesertChannels$Share") ∈ lw_all := lw_g (lw_at lw_m1 142 rfl) rfl
theorem q176 : (Jvm.Cond.fieldLink "DesertChannels" (10 : Nat) "DesertChannels" "reader" "LDesertChannels$Reader;") ∈ lw_all := lw_g (lw_at lw_m1 144 rfl) rfl
theorem q177 : (Jvm.Cond.fieldLink "DesertChannels" (18 : Nat) "DesertChannels" "channels" "[LDesertChannels$Channel;") ∈ lw_all := lw_g (lw_at lw_m1 145 rfl) rfl
theorem q178 : (Jvm.Cond.fieldLink "DesertChannels" (24 : Nat) "DesertChannels" "shares" "[LDesertChannels$Share;") ∈ lw_all := lw_g (lw_at lw_m1 146 rfl) rfl
theorem q179 : (Jvm.Cond.fieldLink "DesertChannels" (28 : Nat) "DesertChannels" "law" "[I") ∈ lw_all := lw_g (lw_at lw_m1 147 rfl) rfl
theorem q180 : (Jvm.Cond.fieldLink "DesertChannels" (32 : Nat) "DesertChannels" "draft" "[I") ∈ lw_all := lw_g (lw_at lw_m1 148 rfl) rfl
theorem q181 : (Jvm.Cond.fieldLink "DesertChannels" (35 : Nat) "DesertChannels" "took" "[I") ∈ lw_all := lw_g (lw_at lw_m1 149 rfl) rfl
theorem q182 : (Jvm.Cond.fieldLink "DesertChannels" (38 : Nat) "DesertChannels" "due" "[I") ∈ lw_all := lw_g (lw_at lw_m1 150 rfl) rfl
theorem q183 : (Jvm.Cond.fieldLink "DesertChannels" (41 : Nat) "DesertChannels" "loss" "[I") ∈ lw_all := lw_g (lw_at lw_m1 151 rfl) rfl
theorem q184 : (Jvm.Cond.fieldLink "DesertChannels" (44 : Nat) "DesertChannels" "best" "[I") ∈ lw_all := lw_g (lw_at lw_m1 152 rfl) rfl
theorem q185 : (Jvm.Cond.fieldLink "DesertChannels" (47 : Nat) "DesertChannels" "length" "[I") ∈ lw_all := lw_g (lw_at lw_m1 153 rfl) rfl
theorem q186 : (Jvm.Cond.fieldLink "DesertChannels" (50 : Nat) "DesertChannels" "piece" "[I") ∈ lw_all := lw_g (lw_at lw_m1 154 rfl) rfl
theorem q187 : (Jvm.Cond.fieldLink "DesertChannels" (53 : Nat) "DesertChannels" "weight" "[J") ∈ lw_all := lw_g (lw_at lw_m1 155 rfl) rfl
theorem q188 : (Jvm.Cond.fieldLink "DesertChannels" (83 : Nat) "DesertChannels" "channelMany" "I") ∈ lw_all := lw_g (lw_at lw_m1 156 rfl) rfl
theorem q189 : (Jvm.Cond.fieldLink "DesertChannels" (149 : Nat) "DesertChannels" "dug" "I") ∈ lw_all := lw_g (lw_at lw_m1 157 rfl) rfl
theorem q190 : (Jvm.Cond.fieldLink "DesertChannels" (101 : Nat) "DesertChannels" "shareMany" "I") ∈ lw_all := lw_g (lw_at lw_m1 158 rfl) rfl
theorem q191 : (Jvm.Cond.fieldLink "DesertChannels" (57 : Nat) "DesertChannels" "head" "I") ∈ lw_all := lw_g (lw_at lw_m1 159 rfl) rfl
theorem q192 : (Jvm.Cond.fieldLink "DesertChannels" (61 : Nat) "DesertChannels" "slope" "I") ∈ lw_all := lw_g (lw_at lw_m1 160 rfl) rfl
theorem q193 : (Jvm.Cond.fieldLink "DesertChannels" (155 : Nat) "DesertChannels" "year" "I") ∈ lw_all := lw_g (lw_at lw_m1 161 rfl) rfl
theorem q194 : (Jvm.Cond.fieldLink "DesertChannels" (207 : Nat) "DesertChannels" "now" "I") ∈ lw_all := lw_g (lw_at lw_m1 162 rfl) rfl
theorem q195 : (Jvm.Cond.fieldLink "DesertChannels" (266 : Nat) "DesertChannels" "fields" "I") ∈ lw_all := lw_g (lw_at lw_m1 163 rfl) rfl
theorem q196 : (Jvm.Cond.fieldLink "DesertChannels" (64 : Nat) "DesertChannels" "wrongAt" "I") ∈ lw_all := lw_g (lw_at lw_m1 164 rfl) rfl
theorem q197 : (Jvm.Cond.laysFinal "DesertChannels" "DesertChannels" "reader" "LDesertChannels$Reader;") ∈ lw_all := lw_g (lw_at lw_m1 165 rfl) rfl
theorem q198 : (Jvm.Cond.soleField "DesertChannels" "reader") ∈ lw_all := lw_g (lw_at lw_m1 166 rfl) rfl
theorem q199 : (Jvm.Cond.laysFinal "DesertChannels" "DesertChannels" "channels" "[LDesertChannels$Channel;") ∈ lw_all := lw_g (lw_at lw_m1 167 rfl) rfl
theorem q200 : (Jvm.Cond.soleField "DesertChannels" "channels") ∈ lw_all := lw_g (lw_at lw_m1 168 rfl) rfl
theorem q201 : (Jvm.Cond.laysFinal "DesertChannels" "DesertChannels" "shares" "[LDesertChannels$Share;") ∈ lw_all := lw_g (lw_at lw_m1 169 rfl) rfl
theorem q202 : (Jvm.Cond.soleField "DesertChannels" "shares") ∈ lw_all := lw_g (lw_at lw_m1 170 rfl) rfl
theorem q203 : (Jvm.Cond.laysFinal "DesertChannels" "DesertChannels" "law" "[I") ∈ lw_all := lw_g (lw_at lw_m1 171 rfl) rfl
theorem q204 : (Jvm.Cond.soleField "DesertChannels" "law") ∈ lw_all := lw_g (lw_at lw_m1 172 rfl) rfl
theorem q205 : (Jvm.Cond.laysFinal "DesertChannels" "DesertChannels" "draft" "[I") ∈ lw_all := lw_g (lw_at lw_m1 173 rfl) rfl
theorem q206 : (Jvm.Cond.soleField "DesertChannels" "draft") ∈ lw_all := lw_g (lw_at lw_m1 174 rfl) rfl
theorem q207 : (Jvm.Cond.laysFinal "DesertChannels" "DesertChannels" "took" "[I") ∈ lw_all := lw_g (lw_at lw_m1 175 rfl) rfl
theorem q208 : (Jvm.Cond.soleField "DesertChannels" "took") ∈ lw_all := lw_g (lw_at lw_m1 176 rfl) rfl
theorem q209 : (Jvm.Cond.laysFinal "DesertChannels" "DesertChannels" "due" "[I") ∈ lw_all := lw_g (lw_at lw_m1 177 rfl) rfl
theorem q210 : (Jvm.Cond.soleField "DesertChannels" "due") ∈ lw_all := lw_g (lw_at lw_m1 178 rfl) rfl
theorem q211 : (Jvm.Cond.laysFinal "DesertChannels" "DesertChannels" "loss" "[I") ∈ lw_all := lw_g (lw_at lw_m1 179 rfl) rfl
theorem q212 : (Jvm.Cond.soleField "DesertChannels" "loss") ∈ lw_all := lw_g (lw_at lw_m1 180 rfl) rfl
theorem q213 : (Jvm.Cond.laysFinal "DesertChannels" "DesertChannels" "best" "[I") ∈ lw_all := lw_g (lw_at lw_m1 181 rfl) rfl
theorem q214 : (Jvm.Cond.soleField "DesertChannels" "best") ∈ lw_all := lw_g (lw_at lw_m1 182 rfl) rfl
theorem q215 : (Jvm.Cond.laysFinal "DesertChannels" "DesertChannels" "length" "[I") ∈ lw_all := lw_g (lw_at lw_m1 183 rfl) rfl
theorem q216 : (Jvm.Cond.soleField "DesertChannels" "length") ∈ lw_all := lw_g (lw_at lw_m1 184 rfl) rfl
theorem q217 : (Jvm.Cond.laysFinal "DesertChannels" "DesertChannels" "piece" "[I") ∈ lw_all := lw_g (lw_at lw_m1 185 rfl) rfl
theorem q218 : (Jvm.Cond.soleField "DesertChannels" "piece") ∈ lw_all := lw_g (lw_at lw_m1 186 rfl) rfl
theorem q219 : (Jvm.Cond.laysFinal "DesertChannels" "DesertChannels" "weight" "[J") ∈ lw_all := lw_g (lw_at lw_m1 187 rfl) rfl
theorem q220 : (Jvm.Cond.soleField "DesertChannels" "weight") ∈ lw_all := lw_g (lw_at lw_m1 188 rfl) rfl
theorem q221 : (Jvm.Cond.lays "DesertChannels" "DesertChannels" "channelMany" "I") ∈ lw_all := lw_g (lw_at lw_m1 189 rfl) rfl
theorem q222 : (Jvm.Cond.soleField "DesertChannels" "channelMany") ∈ lw_all := lw_g (lw_at lw_m1 190 rfl) rfl
theorem q223 : (Jvm.Cond.lays "DesertChannels" "DesertChannels" "dug" "I") ∈ lw_all := lw_g (lw_at lw_m1 191 rfl) rfl
theorem q224 : (Jvm.Cond.soleField "DesertChannels" "dug") ∈ lw_all := lw_g (lw_at lw_m1 192 rfl) rfl
theorem q225 : (Jvm.Cond.lays "DesertChannels" "DesertChannels" "shareMany" "I") ∈ lw_all := lw_g (lw_at lw_m1 193 rfl) rfl
theorem q226 : (Jvm.Cond.soleField "DesertChannels" "shareMany") ∈ lw_all := lw_g (lw_at lw_m1 194 rfl) rfl
theorem q227 : (Jvm.Cond.lays "DesertChannels" "DesertChannels" "head" "I") ∈ lw_all := lw_g (lw_at lw_m1 195 rfl) rfl
theorem q228 : (Jvm.Cond.soleField "DesertChannels" "head") ∈ lw_all := lw_g (lw_at lw_m1 196 rfl) rfl
theorem q229 : (Jvm.Cond.lays "DesertChannels" "DesertChannels" "slope" "I") ∈ lw_all := lw_g (lw_at lw_m1 197 rfl) rfl
theorem q230 : (Jvm.Cond.soleField "DesertChannels" "slope") ∈ lw_all := lw_g (lw_at lw_m1 198 rfl) rfl
theorem q231 : (Jvm.Cond.lays "DesertChannels" "DesertChannels" "year" "I") ∈ lw_all := lw_g (lw_at lw_m1 199 rfl) rfl
theorem q232 : (Jvm.Cond.soleField "DesertChannels" "year") ∈ lw_all := lw_g (lw_at lw_m1 200 rfl) rfl
theorem q233 : (Jvm.Cond.lays "DesertChannels" "DesertChannels" "now" "I") ∈ lw_all := lw_g (lw_at lw_m1 201 rfl) rfl
theorem q234 : (Jvm.Cond.soleField "DesertChannels" "now") ∈ lw_all := lw_g (lw_at lw_m1 202 rfl) rfl
theorem q235 : (Jvm.Cond.lays "DesertChannels" "DesertChannels" "fields" "I") ∈ lw_all := lw_g (lw_at lw_m1 203 rfl) rfl
theorem q236 : (Jvm.Cond.soleField "DesertChannels" "fields") ∈ lw_all := lw_g (lw_at lw_m1 204 rfl) rfl
theorem q237 : (Jvm.Cond.lays "DesertChannels" "DesertChannels" "wrongAt" "I") ∈ lw_all := lw_g (lw_at lw_m1 205 rfl) rfl
theorem q238 : (Jvm.Cond.soleField "DesertChannels" "wrongAt") ∈ lw_all := lw_g (lw_at lw_m1 206 rfl) rfl
theorem q239 : (Jvm.Cond.superclass "DesertChannels" "java/lang/Object") ∈ lw_all := lw_g (lw_at lw_m1 207 rfl) rfl
theorem q243 : (Jvm.Cond.instanceMethod ({ cls := "DesertChannels", name := "feed", desc := "(IIIII)I" } : Jvm.MethodName)) ∈ lw_all := lw_g (lw_at lw_m1 211 rfl) rfl
theorem q244 : (Jvm.Cond.selects "DesertChannels" ({ cls := "DesertChannels", name := "feed", desc := "(IIIII)I" } : Jvm.MethodName) ({ cls := "DesertChannels", name := "feed", desc := "(IIIII)I" } : Jvm.MethodName)) ∈ lw_all := lw_g (lw_at lw_m1 212 rfl) rfl
theorem q245 : (Jvm.Cond.code ({ cls := "DesertChannels", name := "feed", desc := "(IIIII)I" } : Jvm.MethodName) prog_1_method_12_code (6 : Nat) (Option.some Jvm.ClassFile.FieldType.int)) ∈ lw_all := lw_g (lw_at lw_m1 213 rfl) rfl
theorem q246 : (Jvm.Cond.methodLink "DesertChannels" (111 : Nat) ({ cls := "DesertChannels", name := "four", desc := "(I)V" } : Jvm.MethodName)) ∈ lw_all := lw_g (lw_at lw_m1 214 rfl) rfl
theorem q247 : (Jvm.Cond.privateMethod ({ cls := "DesertChannels", name := "four", desc := "(I)V" } : Jvm.MethodName)) ∈ lw_tbl := lw_at lw_m1 215 rfl
theorem q248 : (Jvm.Cond.instanceMethod ({ cls := "DesertChannels", name := "four", desc := "(I)V" } : Jvm.MethodName)) ∈ lw_all := lw_g (lw_at lw_m1 216 rfl) rfl
theorem q249 : (Jvm.Cond.code ({ cls := "DesertChannels", name := "four", desc := "(I)V" } : Jvm.MethodName) prog_1_method_11_code (3 : Nat) (Option.none : Option Jvm.ClassFile.FieldType)) ∈ lw_all := lw_g (lw_at lw_m1 217 rfl) rfl
theorem q251 : (Jvm.Cond.instanceMethod ({ cls := "DesertChannels", name := "end", desc := "(I)Z" } : Jvm.MethodName)) ∈ lw_all := lw_g (lw_at lw_m1 219 rfl) rfl
theorem q252 : (Jvm.Cond.selects "DesertChannels" ({ cls := "DesertChannels", name := "end", desc := "(I)Z" } : Jvm.MethodName) ({ cls := "DesertChannels", name := "end", desc := "(I)Z" } : Jvm.MethodName)) ∈ lw_all := lw_g (lw_at lw_m1 220 rfl) rfl
theorem q253 : (Jvm.Cond.code ({ cls := "DesertChannels", name := "end", desc := "(I)Z" } : Jvm.MethodName) prog_1_method_13_code (2 : Nat) (Option.some Jvm.ClassFile.FieldType.boolean)) ∈ lw_all := lw_g (lw_at lw_m1 221 rfl) rfl
theorem q254 : (Jvm.Cond.methodLink "DesertChannels" (79 : Nat) ({ cls := "DesertChannels", name := "isIn", desc := "(III)Z" } : Jvm.MethodName)) ∈ lw_all := lw_g (lw_at lw_m1 222 rfl) rfl
theorem q255 : (Jvm.Cond.static ({ cls := "DesertChannels", name := "isIn", desc := "(III)Z" } : Jvm.MethodName)) ∈ lw_all := lw_g (lw_at lw_m1 223 rfl) rfl
theorem q256 : (Jvm.Cond.code ({ cls := "DesertChannels", name := "isIn", desc := "(III)Z" } : Jvm.MethodName) prog_1_method_6_code (3 : Nat) (Option.some Jvm.ClassFile.FieldType.boolean)) ∈ lw_all := lw_g (lw_at lw_m1 224 rfl) rfl
theorem q258 : (Jvm.Cond.instanceMethod ({ cls := "DesertChannels", name := "fault", desc := "()I" } : Jvm.MethodName)) ∈ lw_all := lw_g (lw_at lw_m1 226 rfl) rfl
theorem q259 : (Jvm.Cond.selects "DesertChannels" ({ cls := "DesertChannels", name := "fault", desc := "()I" } : Jvm.MethodName) ({ cls := "DesertChannels", name := "fault", desc := "()I" } : Jvm.MethodName)) ∈ lw_all := lw_g (lw_at lw_m1 227 rfl) rfl
theorem q260 : (Jvm.Cond.code ({ cls := "DesertChannels", name := "fault", desc := "()I" } : Jvm.MethodName) prog_1_method_35_code (1 : Nat) (Option.some Jvm.ClassFile.FieldType.int)) ∈ lw_all := lw_g (lw_at lw_m1 228 rfl) rfl
theorem q262 : (Jvm.Cond.instanceMethod ({ cls := "DesertChannels", name := "least", desc := "()I" } : Jvm.MethodName)) ∈ lw_all := lw_g (lw_at lw_m1 230 rfl) rfl
theorem q263 : (Jvm.Cond.selects "DesertChannels" ({ cls := "DesertChannels", name := "least", desc := "()I" } : Jvm.MethodName) ({ cls := "DesertChannels", name := "least", desc := "()I" } : Jvm.MethodName)) ∈ lw_all := lw_g (lw_at lw_m1 231 rfl) rfl
theorem q264 : (Jvm.Cond.code ({ cls := "DesertChannels", name := "least", desc := "()I" } : Jvm.MethodName) prog_1_method_39_code (5 : Nat) (Option.some Jvm.ClassFile.FieldType.int)) ∈ lw_all := lw_g (lw_at lw_m1 232 rfl) rfl
theorem q265 : (Jvm.Cond.constant "DesertChannels" (271 : Nat) (2147483647 : Int32)) ∈ lw_all := lw_g (lw_at lw_m1 233 rfl) rfl
theorem q266 : (Jvm.Cond.methodLink "DesertChannels" (183 : Nat) ({ cls := "java/lang/Math", name := "max", desc := "(II)I" } : Jvm.MethodName)) ∈ lw_all := lw_g (lw_at lw_m1 234 rfl) rfl
theorem q269 : (Jvm.Cond.methodLink "DesertChannels" (177 : Nat) ({ cls := "java/lang/Math", name := "min", desc := "(II)I" } : Jvm.MethodName)) ∈ lw_all := lw_g (lw_at lw_m1 237 rfl) rfl
theorem q273 : (Jvm.Cond.instanceMethod ({ cls := "DesertChannels", name := "count", desc := "(I)I" } : Jvm.MethodName)) ∈ lw_all := lw_g (lw_at lw_m2 1 rfl) rfl
theorem q274 : (Jvm.Cond.selects "DesertChannels" ({ cls := "DesertChannels", name := "count", desc := "(I)I" } : Jvm.MethodName) ({ cls := "DesertChannels", name := "count", desc := "(I)I" } : Jvm.MethodName)) ∈ lw_all := lw_g (lw_at lw_m2 2 rfl) rfl
theorem q275 : (Jvm.Cond.code ({ cls := "DesertChannels", name := "count", desc := "(I)I" } : Jvm.MethodName) prog_1_method_40_code (5 : Nat) (Option.some Jvm.ClassFile.FieldType.int)) ∈ lw_all := lw_g (lw_at lw_m2 3 rfl) rfl
theorem q276 : (Jvm.Cond.methodLink "DesertChannels" (210 : Nat) ({ cls := "DesertChannels$Share", name := "isLet", desc := "(I)Z" } : Jvm.MethodName)) ∈ lw_all := lw_g (lw_at lw_m2 4 rfl) rfl
theorem q280 : (Jvm.Cond.methodLink "DesertChannels" (94 : Nat) ({ cls := "DesertChannels$Channel", name := "isDug", desc := "()Z" } : Jvm.MethodName)) ∈ lw_all := lw_g (lw_at lw_m2 8 rfl) rfl
theorem q284 : (Jvm.Cond.methodLink "DesertChannels" (197 : Nat) ({ cls := "DesertChannels", name := "flowOf", desc := "(LDesertChannels$Channel;I)I" } : Jvm.MethodName)) ∈ lw_all := lw_g (lw_at lw_m2 12 rfl) rfl
theorem q285 : (Jvm.Cond.privateMethod ({ cls := "DesertChannels", name := "flowOf", desc := "(LDesertChannels$Channel;I)I" } : Jvm.MethodName)) ∈ lw_tbl := lw_at lw_m2 13 rfl
theorem q286 : (Jvm.Cond.instanceMethod ({ cls := "DesertChannels", name := "flowOf", desc := "(LDesertChannels$Channel;I)I" } : Jvm.MethodName)) ∈ lw_all := lw_g (lw_at lw_m2 14 rfl) rfl
theorem q287 : (Jvm.Cond.code ({ cls := "DesertChannels", name := "flowOf", desc := "(LDesertChannels$Channel;I)I" } : Jvm.MethodName) prog_1_method_23_code (6 : Nat) (Option.some Jvm.ClassFile.FieldType.int)) ∈ lw_all := lw_g (lw_at lw_m2 15 rfl) rfl
theorem q288 : (Jvm.Cond.methodLink "DesertChannels" (186 : Nat) ({ cls := "DesertChannels$Channel", name := "runs", desc := "()I" } : Jvm.MethodName)) ∈ lw_all := lw_g (lw_at lw_m2 16 rfl) rfl
theorem q292 : (Jvm.Cond.methodLink "DesertChannels" (190 : Nat) ({ cls := "DesertChannels", name := "seepOf", desc := "(LDesertChannels$Channel;II)I" } : Jvm.MethodName)) ∈ lw_all := lw_g (lw_at lw_m2 20 rfl) rfl
theorem q293 : (Jvm.Cond.privateMethod ({ cls := "DesertChannels", name := "seepOf", desc := "(LDesertChannels$Channel;II)I" } : Jvm.MethodName)) ∈ lw_tbl := lw_at lw_m2 21 rfl
theorem q294 : (Jvm.Cond.instanceMethod ({ cls := "DesertChannels", name := "seepOf", desc := "(LDesertChannels$Channel;II)I" } : Jvm.MethodName)) ∈ lw_all := lw_g (lw_at lw_m2 22 rfl) rfl
theorem q295 : (Jvm.Cond.code ({ cls := "DesertChannels", name := "seepOf", desc := "(LDesertChannels$Channel;II)I" } : Jvm.MethodName) prog_1_method_22_code (6 : Nat) (Option.some Jvm.ClassFile.FieldType.int)) ∈ lw_all := lw_g (lw_at lw_m2 23 rfl) rfl
theorem q296 : (Jvm.Cond.methodLink "DesertChannels" (173 : Nat) ({ cls := "DesertChannels$Channel", name := "draw", desc := "(LDesertChannels$Well;I)I" } : Jvm.MethodName)) ∈ lw_all := lw_g (lw_at lw_m2 24 rfl) rfl
theorem q315 : (Jvm.Cond.instanceMethod ({ cls := "DesertChannels", name := "ground", desc := "(II)V" } : Jvm.MethodName)) ∈ lw_all := lw_g (lw_at lw_m2 43 rfl) rfl
theorem q316 : (Jvm.Cond.selects "DesertChannels" ({ cls := "DesertChannels", name := "ground", desc := "(II)V" } : Jvm.MethodName) ({ cls := "DesertChannels", name := "ground", desc := "(II)V" } : Jvm.MethodName)) ∈ lw_all := lw_g (lw_at lw_m2 44 rfl) rfl
theorem q317 : (Jvm.Cond.code ({ cls := "DesertChannels", name := "ground", desc := "(II)V" } : Jvm.MethodName) prog_1_method_14_code (3 : Nat) (Option.none : Option Jvm.ClassFile.FieldType)) ∈ lw_all := lw_g (lw_at lw_m2 45 rfl) rfl
theorem q318 : (Jvm.Cond.methodLink "DesertChannels" (115 : Nat) ({ cls := "DesertChannels", name := "must", desc := "(Z)V" } : Jvm.MethodName)) ∈ lw_all := lw_g (lw_at lw_m2 46 rfl) rfl
theorem q319 : (Jvm.Cond.static ({ cls := "DesertChannels", name := "must", desc := "(Z)V" } : Jvm.MethodName)) ∈ lw_all := lw_g (lw_at lw_m2 47 rfl) rfl
theorem q320 : (Jvm.Cond.code ({ cls := "DesertChannels", name := "must", desc := "(Z)V" } : Jvm.MethodName) prog_1_method_2_code (1 : Nat) (Option.none : Option Jvm.ClassFile.FieldType)) ∈ lw_all := lw_g (lw_at lw_m2 48 rfl) rfl
theorem q321 : (Jvm.Cond.classLink "DesertChannels" (67 : Nat) "java/lang/IllegalArgumentException") ∈ lw_all := lw_g (lw_at lw_m2 49 rfl) rfl
theorem q330 : (Jvm.Cond.methodLink "DesertChannels" (69 : Nat) ({ cls := "java/lang/IllegalArgumentException", name := "<init>", desc := "()V" } : Jvm.MethodName)) ∈ lw_all := lw_g (lw_at lw_m2 58 rfl) rfl
theorem q347 : (Jvm.Cond.instanceMethod ({ cls := "DesertChannels", name := "channel", desc := "()I" } : Jvm.MethodName)) ∈ lw_all := lw_g (lw_at lw_m2 75 rfl) rfl
theorem q348 : (Jvm.Cond.selects "DesertChannels" ({ cls := "DesertChannels", name := "channel", desc := "()I" } : Jvm.MethodName) ({ cls := "DesertChannels", name := "channel", desc := "()I" } : Jvm.MethodName)) ∈ lw_all := lw_g (lw_at lw_m2 76 rfl) rfl
theorem q349 : (Jvm.Cond.code ({ cls := "DesertChannels", name := "channel", desc := "()I" } : Jvm.MethodName) prog_1_method_15_code (1 : Nat) (Option.some Jvm.ClassFile.FieldType.int)) ∈ lw_all := lw_g (lw_at lw_m2 77 rfl) rfl
theorem q350 : (Jvm.Cond.methodLink "DesertChannels" (118 : Nat) ({ cls := "DesertChannels", name := "mayBe", desc := "(Z)V" } : Jvm.MethodName)) ∈ lw_all := lw_g (lw_at lw_m2 78 rfl) rfl
theorem q351 : (Jvm.Cond.static ({ cls := "DesertChannels", name := "mayBe", desc := "(Z)V" } : Jvm.MethodName)) ∈ lw_all := lw_g (lw_at lw_m2 79 rfl) rfl
theorem q352 : (Jvm.Cond.code ({ cls := "DesertChannels", name := "mayBe", desc := "(Z)V" } : Jvm.MethodName) prog_1_method_3_code (1 : Nat) (Option.none : Option Jvm.ClassFile.FieldType)) ∈ lw_all := lw_g (lw_at lw_m2 80 rfl) rfl
theorem q353 : (Jvm.Cond.classLink "DesertChannels" (70 : Nat) "java/lang/UnsupportedOperationException") ∈ lw_all := lw_g (lw_at lw_m2 81 rfl) rfl
theorem q362 : (Jvm.Cond.methodLink "DesertChannels" (72 : Nat) ({ cls := "java/lang/UnsupportedOperationException", name := "<init>", desc := "()V" } : Jvm.MethodName)) ∈ lw_all := lw_g (lw_at lw_m2 90 rfl) rfl
theorem q369 : (Jvm.Cond.methodLinkNest "DesertChannels" (121 : Nat) ({ cls := "DesertChannels$Channel", name := "<init>", desc := "()V" } : Jvm.MethodName) "DesertChannels") ∈ lw_tbl := lw_at lw_m2 97 rfl
theorem q376 : (Jvm.Cond.fieldLinkNest "DesertChannels" (125 : Nat) "DesertChannels$Channel" "wells" "[LDesertChannels$Well;" "DesertChannels") ∈ lw_tbl := lw_at lw_m2 104 rfl
theorem q378 : (Jvm.Cond.fieldLinkNest "DesertChannels" (122 : Nat) "DesertChannels$Channel" "many" "I" "DesertChannels") ∈ lw_tbl := lw_at lw_m2 106 rfl
theorem q380 : (Jvm.Cond.fieldLinkNest "DesertChannels" (158 : Nat) "DesertChannels$Channel" "year" "I" "DesertChannels") ∈ lw_tbl := lw_at lw_m2 108 rfl
theorem q382 : (Jvm.Cond.fieldLinkNest "DesertChannels" (152 : Nat) "DesertChannels$Channel" "order" "I" "DesertChannels") ∈ lw_tbl := lw_at lw_m2 110 rfl
theorem q383 : (Jvm.Cond.fieldLinkNest "DesertChannels" (159 : Nat) "DesertChannels$Channel" "turn" "I" "DesertChannels") ∈ lw_tbl := lw_at lw_m2 111 rfl
theorem q432 : (Jvm.Cond.instanceMethod ({ cls := "DesertChannels", name := "well", desc := "(IIII)I" } : Jvm.MethodName)) ∈ lw_all := lw_g (lw_at lw_m2 160 rfl) rfl
theorem q433 : (Jvm.Cond.selects "DesertChannels" ({ cls := "DesertChannels", name := "well", desc := "(IIII)I" } : Jvm.MethodName) ({ cls := "DesertChannels", name := "well", desc := "(IIII)I" } : Jvm.MethodName)) ∈ lw_all := lw_g (lw_at lw_m2 161 rfl) rfl
theorem q434 : (Jvm.Cond.code ({ cls := "DesertChannels", name := "well", desc := "(IIII)I" } : Jvm.MethodName) prog_1_method_16_code (6 : Nat) (Option.some Jvm.ClassFile.FieldType.int)) ∈ lw_all := lw_g (lw_at lw_m2 162 rfl) rfl
theorem q435 : (Jvm.Cond.methodLink "DesertChannels" (90 : Nat) ({ cls := "DesertChannels", name := "channelAt", desc := "(I)LDesertChannels$Channel;" } : Jvm.MethodName)) ∈ lw_all := lw_g (lw_at lw_m2 163 rfl) rfl
theorem q436 : (Jvm.Cond.privateMethod ({ cls := "DesertChannels", name := "channelAt", desc := "(I)LDesertChannels$Channel;" } : Jvm.MethodName)) ∈ lw_tbl := lw_at lw_m2 164 rfl
theorem q437 : (Jvm.Cond.instanceMethod ({ cls := "DesertChannels", name := "channelAt", desc := "(I)LDesertChannels$Channel;" } : Jvm.MethodName)) ∈ lw_all := lw_g (lw_at lw_m2 165 rfl) rfl
theorem q438 : (Jvm.Cond.code ({ cls := "DesertChannels", name := "channelAt", desc := "(I)LDesertChannels$Channel;" } : Jvm.MethodName) prog_1_method_8_code (2 : Nat) (Option.some (Jvm.ClassFile.FieldType.object "DesertChannels$Channel"))) ∈ lw_all := lw_g (lw_at lw_m2 166 rfl) rfl
theorem q439 : (Jvm.Cond.methodLink "DesertChannels" (86 : Nat) ({ cls := "DesertChannels", name := "mustBe", desc := "(Z)V" } : Jvm.MethodName)) ∈ lw_all := lw_g (lw_at lw_m2 167 rfl) rfl
theorem q440 : (Jvm.Cond.static ({ cls := "DesertChannels", name := "mustBe", desc := "(Z)V" } : Jvm.MethodName)) ∈ lw_all := lw_g (lw_at lw_m2 168 rfl) rfl
theorem q441 : (Jvm.Cond.code ({ cls := "DesertChannels", name := "mustBe", desc := "(Z)V" } : Jvm.MethodName) prog_1_method_4_code (1 : Nat) (Option.none : Option Jvm.ClassFile.FieldType)) ∈ lw_all := lw_g (lw_at lw_m2 169 rfl) rfl
theorem q442 : (Jvm.Cond.classLink "DesertChannels" (73 : Nat) "java/lang/IndexOutOfBoundsException") ∈ lw_all := lw_g (lw_at lw_m2 170 rfl) rfl
theorem q451 : (Jvm.Cond.methodLink "DesertChannels" (75 : Nat) ({ cls := "java/lang/IndexOutOfBoundsException", name := "<init>", desc := "()V" } : Jvm.MethodName)) ∈ lw_all := lw_g (lw_at lw_m2 179 rfl) rfl
theorem q457 : (Jvm.Cond.methodLink "DesertChannels" (98 : Nat) ({ cls := "DesertChannels", name := "stands", desc := "(Z)V" } : Jvm.MethodName)) ∈ lw_all := lw_g (lw_at lw_m2 185 rfl) rfl
theorem q458 : (Jvm.Cond.static ({ cls := "DesertChannels", name := "stands", desc := "(Z)V" } : Jvm.MethodName)) ∈ lw_all := lw_g (lw_at lw_m2 186 rfl) rfl
theorem q459 : (Jvm.Cond.code ({ cls := "DesertChannels", name := "stands", desc := "(Z)V" } : Jvm.MethodName) prog_1_method_5_code (1 : Nat) (Option.none : Option Jvm.ClassFile.FieldType)) ∈ lw_all := lw_g (lw_at lw_m2 187 rfl) rfl
theorem q460 : (Jvm.Cond.classLink "DesertChannels" (76 : Nat) "java/lang/IllegalStateException") ∈ lw_all := lw_g (lw_at lw_m2 188 rfl) rfl
theorem q469 : (Jvm.Cond.methodLink "DesertChannels" (78 : Nat) ({ cls := "java/lang/IllegalStateException", name := "<init>", desc := "()V" } : Jvm.MethodName)) ∈ lw_all := lw_g (lw_at lw_m2 197 rfl) rfl
theorem q475 : (Jvm.Cond.classLink "DesertChannels" (130 : Nat) "DesertChannels$Well") ∈ lw_all := lw_g (lw_at lw_m2 203 rfl) rfl
theorem q477 : (Jvm.Cond.methodLink "DesertChannels" (134 : Nat) ({ cls := "DesertChannels$Well", name := "<init>", desc := "(III)V" } : Jvm.MethodName)) ∈ lw_all := lw_g (lw_at lw_m2 205 rfl) rfl
theorem q482 : (Jvm.Cond.fieldLinkNest "DesertChannels" (170 : Nat) "DesertChannels$Well" "x" "I" "DesertChannels") ∈ lw_tbl := lw_at lw_m2 210 rfl
theorem q485 : (Jvm.Cond.fieldLinkNest "DesertChannels" (129 : Nat) "DesertChannels$Well" "floor" "I" "DesertChannels") ∈ lw_tbl := lw_at lw_m2 213 rfl
theorem q487 : (Jvm.Cond.fieldLinkNest "DesertChannels" (166 : Nat) "DesertChannels$Well" "collapsed" "Z" "DesertChannels") ∈ lw_tbl := lw_at lw_m2 215 rfl
theorem q501 : (Jvm.Cond.instanceMethod ({ cls := "DesertChannels", name := "may", desc := "(I)Z" } : Jvm.MethodName)) ∈ lw_all := lw_g (lw_at lw_m2 229 rfl) rfl
theorem q502 : (Jvm.Cond.selects "DesertChannels" ({ cls := "DesertChannels", name := "may", desc := "(I)Z" } : Jvm.MethodName) ({ cls := "DesertChannels", name := "may", desc := "(I)Z" } : Jvm.MethodName)) ∈ lw_all := lw_g (lw_at lw_m2 230 rfl) rfl
theorem q503 : (Jvm.Cond.code ({ cls := "DesertChannels", name := "may", desc := "(I)Z" } : Jvm.MethodName) prog_1_method_18_code (3 : Nat) (Option.some Jvm.ClassFile.FieldType.boolean)) ∈ lw_all := lw_g (lw_at lw_m2 231 rfl) rfl
theorem q504 : (Jvm.Cond.methodLink "DesertChannels" (141 : Nat) ({ cls := "DesertChannels", name := "isAllowed", desc := "(LDesertChannels$Channel;)Z" } : Jvm.MethodName)) ∈ lw_all := lw_g (lw_at lw_m2 232 rfl) rfl
theorem q505 : (Jvm.Cond.privateMethod ({ cls := "DesertChannels", name := "isAllowed", desc := "(LDesertChannels$Channel;)Z" } : Jvm.MethodName)) ∈ lw_tbl := lw_at lw_m2 233 rfl
theorem q506 : (Jvm.Cond.instanceMethod ({ cls := "DesertChannels", name := "isAllowed", desc := "(LDesertChannels$Channel;)Z" } : Jvm.MethodName)) ∈ lw_all := lw_g (lw_at lw_m2 234 rfl) rfl
theorem q507 : (Jvm.Cond.code ({ cls := "DesertChannels", name := "isAllowed", desc := "(LDesertChannels$Channel;)Z" } : Jvm.MethodName) prog_1_method_17_code (7 : Nat) (Option.some Jvm.ClassFile.FieldType.boolean)) ∈ lw_all := lw_g (lw_at lw_m2 235 rfl) rfl
theorem q508 : (Jvm.Cond.methodLink "DesertChannels" (137 : Nat) ({ cls := "DesertChannels$Well", name := "steps", desc := "(LDesertChannels$Well;)I" } : Jvm.MethodName)) ∈ lw_all := lw_g (lw_at lw_m2 236 rfl) rfl
theorem q513 : (Jvm.Cond.instanceMethod ({ cls := "DesertChannels", name := "dig", desc := "(III)I" } : Jvm.MethodName)) ∈ lw_all := lw_g (lw_at lw_m3 1 rfl) rfl
theorem q514 : (Jvm.Cond.selects "DesertChannels" ({ cls := "DesertChannels", name := "dig", desc := "(III)I" } : Jvm.MethodName) ({ cls := "DesertChannels", name := "dig", desc := "(III)I" } : Jvm.MethodName)) ∈ lw_all := lw_g (lw_at lw_m3 2 rfl) rfl
theorem q515 : (Jvm.Cond.code ({ cls := "DesertChannels", name := "dig", desc := "(III)I" } : Jvm.MethodName) prog_1_method_19_code (5 : Nat) (Option.some Jvm.ClassFile.FieldType.int)) ∈ lw_all := lw_g (lw_at lw_m3 3 rfl) rfl
theorem q516 : (Jvm.Cond.methodLink "DesertChannels" (145 : Nat) ({ cls := "DesertChannels", name := "isOwner", desc := "(I)Z" } : Jvm.MethodName)) ∈ lw_all := lw_g (lw_at lw_m3 4 rfl) rfl
theorem q517 : (Jvm.Cond.static ({ cls := "DesertChannels", name := "isOwner", desc := "(I)Z" } : Jvm.MethodName)) ∈ lw_all := lw_g (lw_at lw_m3 5 rfl) rfl
theorem q518 : (Jvm.Cond.code ({ cls := "DesertChannels", name := "isOwner", desc := "(I)Z" } : Jvm.MethodName) prog_1_method_7_code (1 : Nat) (Option.some Jvm.ClassFile.FieldType.boolean)) ∈ lw_all := lw_g (lw_at lw_m3 6 rfl) rfl
theorem q519 : (Jvm.Cond.methodLink "DesertChannels" (162 : Nat) ({ cls := "DesertChannels", name := "add", desc := "(LDesertChannels$Channel;IIII)V" } : Jvm.MethodName)) ∈ lw_all := lw_g (lw_at lw_m3 7 rfl) rfl
theorem q520 : (Jvm.Cond.privateMethod ({ cls := "DesertChannels", name := "add", desc := "(LDesertChannels$Channel;IIII)V" } : Jvm.MethodName)) ∈ lw_tbl := lw_at lw_m3 8 rfl
theorem q521 : (Jvm.Cond.instanceMethod ({ cls := "DesertChannels", name := "add", desc := "(LDesertChannels$Channel;IIII)V" } : Jvm.MethodName)) ∈ lw_all := lw_g (lw_at lw_m3 9 rfl) rfl
theorem q522 : (Jvm.Cond.code ({ cls := "DesertChannels", name := "add", desc := "(LDesertChannels$Channel;IIII)V" } : Jvm.MethodName) prog_1_method_27_code (6 : Nat) (Option.none : Option Jvm.ClassFile.FieldType)) ∈ lw_all := lw_g (lw_at lw_m3 10 rfl) rfl
theorem q524 : (Jvm.Cond.methodLink "DesertChannels" (201 : Nat) ({ cls := "DesertChannels$Share", name := "<init>", desc := "(LDesertChannels$Channel;IIII)V" } : Jvm.MethodName)) ∈ lw_all := lw_g (lw_at lw_m3 12 rfl) rfl
theorem q529 : (Jvm.Cond.fieldLinkNest "DesertChannels" (222 : Nat) "DesertChannels$Share" "channel" "LDesertChannels$Channel;" "DesertChannels") ∈ lw_tbl := lw_at lw_m3 17 rfl
theorem q531 : (Jvm.Cond.fieldLinkNest "DesertChannels" (226 : Nat) "DesertChannels$Share" "number" "I" "DesertChannels") ∈ lw_tbl := lw_at lw_m3 19 rfl
theorem q533 : (Jvm.Cond.fieldLinkNest "DesertChannels" (213 : Nat) "DesertChannels$Share" "from" "I" "DesertChannels") ∈ lw_tbl := lw_at lw_m3 21 rfl
theorem q535 : (Jvm.Cond.fieldLinkNest "DesertChannels" (216 : Nat) "DesertChannels$Share" "to" "I" "DesertChannels") ∈ lw_tbl := lw_at lw_m3 23 rfl
theorem q537 : (Jvm.Cond.fieldLinkNest "DesertChannels" (219 : Nat) "DesertChannels$Share" "owner" "I" "DesertChannels") ∈ lw_tbl := lw_at lw_m3 25 rfl
theorem q539 : (Jvm.Cond.fieldLinkNest "DesertChannels" (233 : Nat) "DesertChannels$Share" "tenant" "I" "DesertChannels") ∈ lw_tbl := lw_at lw_m3 27 rfl
theorem q541 : (Jvm.Cond.fieldLinkNest "DesertChannels" (236 : Nat) "DesertChannels$Share" "letFrom" "I" "DesertChannels") ∈ lw_tbl := lw_at lw_m3 29 rfl
theorem q543 : (Jvm.Cond.fieldLinkNest "DesertChannels" (239 : Nat) "DesertChannels$Share" "letTo" "I" "DesertChannels") ∈ lw_tbl := lw_at lw_m3 31 rfl
theorem q565 : (Jvm.Cond.instanceMethod ({ cls := "DesertChannels", name := "years", desc := "(I)I" } : Jvm.MethodName)) ∈ lw_all := lw_g (lw_at lw_m3 53 rfl) rfl
theorem q566 : (Jvm.Cond.selects "DesertChannels" ({ cls := "DesertChannels", name := "years", desc := "(I)I" } : Jvm.MethodName) ({ cls := "DesertChannels", name := "years", desc := "(I)I" } : Jvm.MethodName)) ∈ lw_all := lw_g (lw_at lw_m3 54 rfl) rfl
theorem q567 : (Jvm.Cond.code ({ cls := "DesertChannels", name := "years", desc := "(I)I" } : Jvm.MethodName) prog_1_method_20_code (2 : Nat) (Option.some Jvm.ClassFile.FieldType.int)) ∈ lw_all := lw_g (lw_at lw_m3 55 rfl) rfl
theorem q572 : (Jvm.Cond.instanceMethod ({ cls := "DesertChannels", name := "collapse", desc := "(IIZ)Z" } : Jvm.MethodName)) ∈ lw_all := lw_g (lw_at lw_m3 60 rfl) rfl
theorem q573 : (Jvm.Cond.selects "DesertChannels" ({ cls := "DesertChannels", name := "collapse", desc := "(IIZ)Z" } : Jvm.MethodName) ({ cls := "DesertChannels", name := "collapse", desc := "(IIZ)Z" } : Jvm.MethodName)) ∈ lw_all := lw_g (lw_at lw_m3 61 rfl) rfl
theorem q574 : (Jvm.Cond.code ({ cls := "DesertChannels", name := "collapse", desc := "(IIZ)Z" } : Jvm.MethodName) prog_1_method_21_code (6 : Nat) (Option.some Jvm.ClassFile.FieldType.boolean)) ∈ lw_all := lw_g (lw_at lw_m3 62 rfl) rfl
theorem q579 : (Jvm.Cond.instanceMethod ({ cls := "DesertChannels", name := "flow", desc := "(I)I" } : Jvm.MethodName)) ∈ lw_all := lw_g (lw_at lw_m3 67 rfl) rfl
theorem q580 : (Jvm.Cond.selects "DesertChannels" ({ cls := "DesertChannels", name := "flow", desc := "(I)I" } : Jvm.MethodName) ({ cls := "DesertChannels", name := "flow", desc := "(I)I" } : Jvm.MethodName)) ∈ lw_all := lw_g (lw_at lw_m3 68 rfl) rfl
theorem q581 : (Jvm.Cond.code ({ cls := "DesertChannels", name := "flow", desc := "(I)I" } : Jvm.MethodName) prog_1_method_24_code (2 : Nat) (Option.some Jvm.ClassFile.FieldType.int)) ∈ lw_all := lw_g (lw_at lw_m3 69 rfl) rfl
theorem q582 : (Jvm.Cond.methodLink "DesertChannels" (194 : Nat) ({ cls := "DesertChannels", name := "dugAt", desc := "(I)LDesertChannels$Channel;" } : Jvm.MethodName)) ∈ lw_all := lw_g (lw_at lw_m3 70 rfl) rfl
theorem q583 : (Jvm.Cond.privateMethod ({ cls := "DesertChannels", name := "dugAt", desc := "(I)LDesertChannels$Channel;" } : Jvm.MethodName)) ∈ lw_tbl := lw_at lw_m3 71 rfl
theorem q584 : (Jvm.Cond.instanceMethod ({ cls := "DesertChannels", name := "dugAt", desc := "(I)LDesertChannels$Channel;" } : Jvm.MethodName)) ∈ lw_all := lw_g (lw_at lw_m3 72 rfl) rfl
theorem q585 : (Jvm.Cond.code ({ cls := "DesertChannels", name := "dugAt", desc := "(I)LDesertChannels$Channel;" } : Jvm.MethodName) prog_1_method_9_code (3 : Nat) (Option.some (Jvm.ClassFile.FieldType.object "DesertChannels$Channel"))) ∈ lw_all := lw_g (lw_at lw_m3 73 rfl) rfl
theorem q590 : (Jvm.Cond.instanceMethod ({ cls := "DesertChannels", name := "harm", desc := "(I)I" } : Jvm.MethodName)) ∈ lw_all := lw_g (lw_at lw_m3 78 rfl) rfl
theorem q591 : (Jvm.Cond.selects "DesertChannels" ({ cls := "DesertChannels", name := "harm", desc := "(I)I" } : Jvm.MethodName) ({ cls := "DesertChannels", name := "harm", desc := "(I)I" } : Jvm.MethodName)) ∈ lw_all := lw_g (lw_at lw_m3 79 rfl) rfl
theorem q592 : (Jvm.Cond.code ({ cls := "DesertChannels", name := "harm", desc := "(I)I" } : Jvm.MethodName) prog_1_method_25_code (3 : Nat) (Option.some Jvm.ClassFile.FieldType.int)) ∈ lw_all := lw_g (lw_at lw_m3 80 rfl) rfl
theorem q597 : (Jvm.Cond.instanceMethod ({ cls := "DesertChannels", name := "seep", desc := "(II)I" } : Jvm.MethodName)) ∈ lw_all := lw_g (lw_at lw_m3 85 rfl) rfl
theorem q598 : (Jvm.Cond.selects "DesertChannels" ({ cls := "DesertChannels", name := "seep", desc := "(II)I" } : Jvm.MethodName) ({ cls := "DesertChannels", name := "seep", desc := "(II)I" } : Jvm.MethodName)) ∈ lw_all := lw_g (lw_at lw_m3 86 rfl) rfl
theorem q599 : (Jvm.Cond.code ({ cls := "DesertChannels", name := "seep", desc := "(II)I" } : Jvm.MethodName) prog_1_method_26_code (4 : Nat) (Option.some Jvm.ClassFile.FieldType.int)) ∈ lw_all := lw_g (lw_at lw_m3 87 rfl) rfl
theorem q604 : (Jvm.Cond.instanceMethod ({ cls := "DesertChannels", name := "sell", desc := "(IIII)V" } : Jvm.MethodName)) ∈ lw_all := lw_g (lw_at lw_m3 92 rfl) rfl
theorem q605 : (Jvm.Cond.selects "DesertChannels" ({ cls := "DesertChannels", name := "sell", desc := "(IIII)V" } : Jvm.MethodName) ({ cls := "DesertChannels", name := "sell", desc := "(IIII)V" } : Jvm.MethodName)) ∈ lw_all := lw_g (lw_at lw_m3 93 rfl) rfl
theorem q606 : (Jvm.Cond.code ({ cls := "DesertChannels", name := "sell", desc := "(IIII)V" } : Jvm.MethodName) prog_1_method_28_code (8 : Nat) (Option.none : Option Jvm.ClassFile.FieldType)) ∈ lw_all := lw_g (lw_at lw_m3 94 rfl) rfl
theorem q607 : (Jvm.Cond.methodLink "DesertChannels" (203 : Nat) ({ cls := "DesertChannels", name := "shareAt", desc := "(I)LDesertChannels$Share;" } : Jvm.MethodName)) ∈ lw_all := lw_g (lw_at lw_m3 95 rfl) rfl
theorem q608 : (Jvm.Cond.privateMethod ({ cls := "DesertChannels", name := "shareAt", desc := "(I)LDesertChannels$Share;" } : Jvm.MethodName)) ∈ lw_tbl := lw_at lw_m3 96 rfl
theorem q609 : (Jvm.Cond.instanceMethod ({ cls := "DesertChannels", name := "shareAt", desc := "(I)LDesertChannels$Share;" } : Jvm.MethodName)) ∈ lw_all := lw_g (lw_at lw_m3 97 rfl) rfl
theorem q610 : (Jvm.Cond.code ({ cls := "DesertChannels", name := "shareAt", desc := "(I)LDesertChannels$Share;" } : Jvm.MethodName) prog_1_method_10_code (2 : Nat) (Option.some (Jvm.ClassFile.FieldType.object "DesertChannels$Share"))) ∈ lw_all := lw_g (lw_at lw_m3 98 rfl) rfl
theorem q611 : (Jvm.Cond.methodLink "DesertChannels" (229 : Nat) ({ cls := "DesertChannels$Share", name := "be", desc := "(III)V" } : Jvm.MethodName)) ∈ lw_all := lw_g (lw_at lw_m3 99 rfl) rfl
theorem q619 : (Jvm.Cond.instanceMethod ({ cls := "DesertChannels", name := "heirs", desc := "(IIIIIIIIII)I" } : Jvm.MethodName)) ∈ lw_all := lw_g (lw_at lw_m3 107 rfl) rfl
theorem q620 : (Jvm.Cond.selects "DesertChannels" ({ cls := "DesertChannels", name := "heirs", desc := "(IIIIIIIIII)I" } : Jvm.MethodName) ({ cls := "DesertChannels", name := "heirs", desc := "(IIIIIIIIII)I" } : Jvm.MethodName)) ∈ lw_all := lw_g (lw_at lw_m3 108 rfl) rfl
theorem q621 : (Jvm.Cond.code ({ cls := "DesertChannels", name := "heirs", desc := "(IIIIIIIIII)I" } : Jvm.MethodName) prog_1_method_29_code (21 : Nat) (Option.some Jvm.ClassFile.FieldType.int)) ∈ lw_all := lw_g (lw_at lw_m3 109 rfl) rfl
theorem q626 : (Jvm.Cond.instanceMethod ({ cls := "DesertChannels", name := "let", desc := "(IIII)V" } : Jvm.MethodName)) ∈ lw_all := lw_g (lw_at lw_m3 114 rfl) rfl
theorem q627 : (Jvm.Cond.selects "DesertChannels" ({ cls := "DesertChannels", name := "let", desc := "(IIII)V" } : Jvm.MethodName) ({ cls := "DesertChannels", name := "let", desc := "(IIII)V" } : Jvm.MethodName)) ∈ lw_all := lw_g (lw_at lw_m3 115 rfl) rfl
theorem q628 : (Jvm.Cond.code ({ cls := "DesertChannels", name := "let", desc := "(IIII)V" } : Jvm.MethodName) prog_1_method_30_code (6 : Nat) (Option.none : Option Jvm.ClassFile.FieldType)) ∈ lw_all := lw_g (lw_at lw_m3 116 rfl) rfl
theorem q629 : (Jvm.Cond.constant "DesertChannels" (232 : Nat) (100000000 : Int32)) ∈ lw_all := lw_g (lw_at lw_m3 117 rfl) rfl
theorem q634 : (Jvm.Cond.instanceMethod ({ cls := "DesertChannels", name := "minutes", desc := "(I)I" } : Jvm.MethodName)) ∈ lw_all := lw_g (lw_at lw_m3 122 rfl) rfl
theorem q635 : (Jvm.Cond.selects "DesertChannels" ({ cls := "DesertChannels", name := "minutes", desc := "(I)I" } : Jvm.MethodName) ({ cls := "DesertChannels", name := "minutes", desc := "(I)I" } : Jvm.MethodName)) ∈ lw_all := lw_g (lw_at lw_m3 123 rfl) rfl
theorem q636 : (Jvm.Cond.code ({ cls := "DesertChannels", name := "minutes", desc := "(I)I" } : Jvm.MethodName) prog_1_method_31_code (2 : Nat) (Option.some Jvm.ClassFile.FieldType.int)) ∈ lw_all := lw_g (lw_at lw_m3 124 rfl) rfl
theorem q637 : (Jvm.Cond.constant "DesertChannels" (242 : Nat) (100000 : Int32)) ∈ lw_all := lw_g (lw_at lw_m3 125 rfl) rfl
theorem q642 : (Jvm.Cond.instanceMethod ({ cls := "DesertChannels", name := "holder", desc := "(II)I" } : Jvm.MethodName)) ∈ lw_all := lw_g (lw_at lw_m3 130 rfl) rfl
theorem q643 : (Jvm.Cond.selects "DesertChannels" ({ cls := "DesertChannels", name := "holder", desc := "(II)I" } : Jvm.MethodName) ({ cls := "DesertChannels", name := "holder", desc := "(II)I" } : Jvm.MethodName)) ∈ lw_all := lw_g (lw_at lw_m3 131 rfl) rfl
theorem q644 : (Jvm.Cond.code ({ cls := "DesertChannels", name := "holder", desc := "(II)I" } : Jvm.MethodName) prog_1_method_32_code (6 : Nat) (Option.some Jvm.ClassFile.FieldType.int)) ∈ lw_all := lw_g (lw_at lw_m3 132 rfl) rfl
theorem q645 : (Jvm.Cond.methodLink "DesertChannels" (243 : Nat) ({ cls := "DesertChannels$Share", name := "holder", desc := "(I)I" } : Jvm.MethodName)) ∈ lw_all := lw_g (lw_at lw_m3 133 rfl) rfl
theorem q654 : (Jvm.Cond.instanceMethod ({ cls := "DesertChannels", name := "share", desc := "(II)I" } : Jvm.MethodName)) ∈ lw_all := lw_g (lw_at lw_m3 142 rfl) rfl
theorem q655 : (Jvm.Cond.selects "DesertChannels" ({ cls := "DesertChannels", name := "share", desc := "(II)I" } : Jvm.MethodName) ({ cls := "DesertChannels", name := "share", desc := "(II)I" } : Jvm.MethodName)) ∈ lw_all := lw_g (lw_at lw_m3 143 rfl) rfl
theorem q656 : (Jvm.Cond.code ({ cls := "DesertChannels", name := "share", desc := "(II)I" } : Jvm.MethodName) prog_1_method_33_code (4 : Nat) (Option.some Jvm.ClassFile.FieldType.int)) ∈ lw_all := lw_g (lw_at lw_m3 144 rfl) rfl
theorem q657 : (Jvm.Cond.classLink "DesertChannels" (247 : Nat) "java/util/NoSuchElementException") ∈ lw_all := lw_g (lw_at lw_m3 145 rfl) rfl
theorem q666 : (Jvm.Cond.methodLink "DesertChannels" (249 : Nat) ({ cls := "java/util/NoSuchElementException", name := "<init>", desc := "()V" } : Jvm.MethodName)) ∈ lw_all := lw_g (lw_at lw_m3 154 rfl) rfl
theorem q676 : (Jvm.Cond.instanceMethod ({ cls := "DesertChannels", name := "law", desc := "()I" } : Jvm.MethodName)) ∈ lw_all := lw_g (lw_at lw_m3 164 rfl) rfl
theorem q677 : (Jvm.Cond.selects "DesertChannels" ({ cls := "DesertChannels", name := "law", desc := "()I" } : Jvm.MethodName) ({ cls := "DesertChannels", name := "law", desc := "()I" } : Jvm.MethodName)) ∈ lw_all := lw_g (lw_at lw_m3 165 rfl) rfl
theorem q678 : (Jvm.Cond.codeWith ({ cls := "DesertChannels", name := "law", desc := "()I" } : Jvm.MethodName) prog_1_method_34_code (4 : Nat) (Option.some Jvm.ClassFile.FieldType.int) [((35 : Nat), (48 : Nat), (51 : Nat), (260 : Nat))]) ∈ lw_all := lw_g (lw_at lw_m3 166 rfl) rfl
theorem q679 : (Jvm.Cond.classLink "DesertChannels" (260 : Nat) "DesertChannels$Wrong") ∈ lw_all := lw_g (lw_at lw_m3 167 rfl) rfl
theorem q680 : (Jvm.Cond.methodLink "DesertChannels" (250 : Nat) ({ cls := "java/lang/System", name := "arraycopy", desc := "(Ljava/lang/Object;ILjava/lang/Object;II)V" } : Jvm.MethodName)) ∈ lw_all := lw_g (lw_at lw_m3 168 rfl) rfl
theorem q683 : (Jvm.Cond.methodLink "DesertChannels" (256 : Nat) ({ cls := "DesertChannels$Reader", name := "read", desc := "(I[I)I" } : Jvm.MethodName)) ∈ lw_all := lw_g (lw_at lw_m3 171 rfl) rfl
theorem q757 : (Jvm.Cond.instanceMethod ({ cls := "DesertChannels", name := "says", desc := "(I)I" } : Jvm.MethodName)) ∈ lw_all := lw_g (lw_at lw_m4 5 rfl) rfl
theorem q758 : (Jvm.Cond.selects "DesertChannels" ({ cls := "DesertChannels", name := "says", desc := "(I)I" } : Jvm.MethodName) ({ cls := "DesertChannels", name := "says", desc := "(I)I" } : Jvm.MethodName)) ∈ lw_all := lw_g (lw_at lw_m4 6 rfl) rfl
theorem q759 : (Jvm.Cond.code ({ cls := "DesertChannels", name := "says", desc := "(I)I" } : Jvm.MethodName) prog_1_method_36_code (2 : Nat) (Option.some Jvm.ClassFile.FieldType.int)) ∈ lw_all := lw_g (lw_at lw_m4 7 rfl) rfl
theorem q764 : (Jvm.Cond.instanceMethod ({ cls := "DesertChannels", name := "pays", desc := "(III)I" } : Jvm.MethodName)) ∈ lw_all := lw_g (lw_at lw_m4 12 rfl) rfl
theorem q765 : (Jvm.Cond.selects "DesertChannels" ({ cls := "DesertChannels", name := "pays", desc := "(III)I" } : Jvm.MethodName) ({ cls := "DesertChannels", name := "pays", desc := "(III)I" } : Jvm.MethodName)) ∈ lw_all := lw_g (lw_at lw_m4 13 rfl) rfl
theorem q766 : (Jvm.Cond.code ({ cls := "DesertChannels", name := "pays", desc := "(III)I" } : Jvm.MethodName) prog_1_method_37_code (11 : Nat) (Option.some Jvm.ClassFile.FieldType.int)) ∈ lw_all := lw_g (lw_at lw_m4 14 rfl) rfl
theorem q767 : (Jvm.Cond.constant "DesertChannels" (265 : Nat) (1000000 : Int32)) ∈ lw_all := lw_g (lw_at lw_m4 15 rfl) rfl
theorem q772 : (Jvm.Cond.instanceMethod ({ cls := "DesertChannels", name := "field", desc := "(III)I" } : Jvm.MethodName)) ∈ lw_all := lw_g (lw_at lw_m4 20 rfl) rfl
theorem q773 : (Jvm.Cond.selects "DesertChannels" ({ cls := "DesertChannels", name := "field", desc := "(III)I" } : Jvm.MethodName) ({ cls := "DesertChannels", name := "field", desc := "(III)I" } : Jvm.MethodName)) ∈ lw_all := lw_g (lw_at lw_m4 21 rfl) rfl
theorem q774 : (Jvm.Cond.code ({ cls := "DesertChannels", name := "field", desc := "(III)I" } : Jvm.MethodName) prog_1_method_38_code (4 : Nat) (Option.some Jvm.ClassFile.FieldType.int)) ∈ lw_all := lw_g (lw_at lw_m4 22 rfl) rfl
theorem q1098 : (Jvm.Cond.castable "DesertChannels" "java/lang/Object") ∈ lw_tbl := lw_at lw_m5 106 rfl
theorem in_X1 : ∀ w ∈ wsX10, w ∈ lw_all := lw_in wsX10 [197, 199, 201, 203, 205, 207, 209, 211, 213, 215, 217, 219, 221, 223, 225, 227, 229, 231, 233, 235, 237] (by decide +kernel) (by decide +kernel)
theorem q34 : (Jvm.Cond.initialized "DesertChannels$Reader") ∈ lw_all := lw_g (lw_at lw_m1 2 rfl) rfl
theorem q64 : (Jvm.Cond.instantiable "DesertChannels$Reader" (6 : Nat)) ∈ lw_all := lw_g (lw_at lw_m1 32 rfl) rfl
theorem q66 : (Jvm.Cond.instanceMethod ({ cls := "DesertChannels$Reader", name := "<init>", desc := "()V" } : Jvm.MethodName)) ∈ lw_all := lw_g (lw_at lw_m1 34 rfl) rfl
theorem q67 : (Jvm.Cond.code ({ cls := "DesertChannels$Reader", name := "<init>", desc := "()V" } : Jvm.MethodName) prog_3_method_1_code (1 : Nat) (Option.none : Option Jvm.ClassFile.FieldType)) ∈ lw_all := lw_g (lw_at lw_m1 35 rfl) rfl
theorem q68 : (Jvm.Cond.methodLink "DesertChannels$Reader" (3 : Nat) ({ cls := "java/lang/Object", name := "<init>", desc := "()V" } : Jvm.MethodName)) ∈ lw_all := lw_g (lw_at lw_m1 36 rfl) rfl
theorem q69 : (Jvm.Cond.classLink "DesertChannels$Reader" (15 : Nat) "java/lang/String") ∈ lw_all := lw_g (lw_at lw_m1 37 rfl) rfl
theorem q71 : (Jvm.Cond.stringRef "DesertChannels$Reader" (17 : Nat) "distance") ∈ lw_tbl := lw_at lw_m1 39 rfl
theorem q72 : (Jvm.Cond.stringRef "DesertChannels$Reader" (19 : Nat) "depth") ∈ lw_tbl := lw_at lw_m1 40 rfl
theorem q73 : (Jvm.Cond.stringRef "DesertChannels$Reader" (21 : Nat) "repair") ∈ lw_tbl := lw_at lw_m1 41 rfl
theorem q74 : (Jvm.Cond.stringRef "DesertChannels$Reader" (23 : Nat) "free") ∈ lw_tbl := lw_at lw_m1 42 rfl
theorem q75 : (Jvm.Cond.stringRef "DesertChannels$Reader" (25 : Nat) "hours") ∈ lw_tbl := lw_at lw_m1 43 rfl
theorem q76 : (Jvm.Cond.stringRef "DesertChannels$Reader" (27 : Nat) "heads") ∈ lw_tbl := lw_at lw_m1 44 rfl
theorem q77 : (Jvm.Cond.classLink "DesertChannels$Reader" (33 : Nat) "DesertChannels$Wrong") ∈ lw_all := lw_g (lw_at lw_m1 45 rfl) rfl
theorem q122 : (Jvm.Cond.methodLink "DesertChannels$Reader" (35 : Nat) ({ cls := "DesertChannels$Wrong", name := "<init>", desc := "()V" } : Jvm.MethodName)) ∈ lw_all := lw_g (lw_at lw_m1 90 rfl) rfl
theorem q134 : (Jvm.Cond.fieldLinkNest "DesertChannels$Reader" (40 : Nat) "DesertChannels$Wrong" "place" "I" "DesertChannels") ∈ lw_tbl := lw_at lw_m1 102 rfl
theorem q152 : (Jvm.Cond.fieldLink "DesertChannels$Reader" (9 : Nat) "DesertChannels$Reader" "tape" "[B") ∈ lw_all := lw_g (lw_at lw_m1 120 rfl) rfl
theorem q154 : (Jvm.Cond.fieldLink "DesertChannels$Reader" (29 : Nat) "DesertChannels$Reader" "words" "[Ljava/lang/String;") ∈ lw_all := lw_g (lw_at lw_m1 122 rfl) rfl
theorem q155 : (Jvm.Cond.fieldLink "DesertChannels$Reader" (36 : Nat) "DesertChannels$Reader" "wrong" "LDesertChannels$Wrong;") ∈ lw_all := lw_g (lw_at lw_m1 123 rfl) rfl
theorem q157 : (Jvm.Cond.fieldLink "DesertChannels$Reader" (47 : Nat) "DesertChannels$Reader" "end" "I") ∈ lw_all := lw_g (lw_at lw_m1 125 rfl) rfl
theorem q158 : (Jvm.Cond.fieldLink "DesertChannels$Reader" (44 : Nat) "DesertChannels$Reader" "at" "I") ∈ lw_all := lw_g (lw_at lw_m1 126 rfl) rfl
theorem q159 : (Jvm.Cond.laysFinal "DesertChannels$Reader" "DesertChannels$Reader" "tape" "[B") ∈ lw_all := lw_g (lw_at lw_m1 127 rfl) rfl
theorem q160 : (Jvm.Cond.soleField "DesertChannels$Reader" "tape") ∈ lw_all := lw_g (lw_at lw_m1 128 rfl) rfl
theorem q161 : (Jvm.Cond.laysFinal "DesertChannels$Reader" "DesertChannels$Reader" "words" "[Ljava/lang/String;") ∈ lw_all := lw_g (lw_at lw_m1 129 rfl) rfl
theorem q162 : (Jvm.Cond.soleField "DesertChannels$Reader" "words") ∈ lw_all := lw_g (lw_at lw_m1 130 rfl) rfl
theorem q163 : (Jvm.Cond.laysFinal "DesertChannels$Reader" "DesertChannels$Reader" "wrong" "LDesertChannels$Wrong;") ∈ lw_all := lw_g (lw_at lw_m1 131 rfl) rfl
theorem q164 : (Jvm.Cond.soleField "DesertChannels$Reader" "wrong") ∈ lw_all := lw_g (lw_at lw_m1 132 rfl) rfl
theorem q165 : (Jvm.Cond.lays "DesertChannels$Reader" "DesertChannels$Reader" "size" "I") ∈ lw_all := lw_g (lw_at lw_m1 133 rfl) rfl
theorem q166 : (Jvm.Cond.soleField "DesertChannels$Reader" "size") ∈ lw_all := lw_g (lw_at lw_m1 134 rfl) rfl
theorem q167 : (Jvm.Cond.lays "DesertChannels$Reader" "DesertChannels$Reader" "end" "I") ∈ lw_all := lw_g (lw_at lw_m1 135 rfl) rfl
theorem q168 : (Jvm.Cond.soleField "DesertChannels$Reader" "end") ∈ lw_all := lw_g (lw_at lw_m1 136 rfl) rfl
theorem q169 : (Jvm.Cond.lays "DesertChannels$Reader" "DesertChannels$Reader" "at" "I") ∈ lw_all := lw_g (lw_at lw_m1 137 rfl) rfl
theorem q170 : (Jvm.Cond.soleField "DesertChannels$Reader" "at") ∈ lw_all := lw_g (lw_at lw_m1 138 rfl) rfl
theorem q171 : (Jvm.Cond.superclass "DesertChannels$Reader" "java/lang/Object") ∈ lw_all := lw_g (lw_at lw_m1 139 rfl) rfl
theorem q684 : (Jvm.Cond.instanceMethod ({ cls := "DesertChannels$Reader", name := "read", desc := "(I[I)I" } : Jvm.MethodName)) ∈ lw_all := lw_g (lw_at lw_m3 172 rfl) rfl
theorem q685 : (Jvm.Cond.selects "DesertChannels$Reader" ({ cls := "DesertChannels$Reader", name := "read", desc := "(I[I)I" } : Jvm.MethodName) ({ cls := "DesertChannels$Reader", name := "read", desc := "(I[I)I" } : Jvm.MethodName)) ∈ lw_all := lw_g (lw_at lw_m3 173 rfl) rfl
theorem q686 : (Jvm.Cond.code ({ cls := "DesertChannels$Reader", name := "read", desc := "(I[I)I" } : Jvm.MethodName) prog_3_method_6_code (6 : Nat) (Option.some Jvm.ClassFile.FieldType.int)) ∈ lw_all := lw_g (lw_at lw_m3 174 rfl) rfl
theorem q687 : (Jvm.Cond.methodLink "DesertChannels$Reader" (65 : Nat) ({ cls := "DesertChannels$Reader", name := "word", desc := "(II)I" } : Jvm.MethodName)) ∈ lw_all := lw_g (lw_at lw_m3 175 rfl) rfl
theorem q688 : (Jvm.Cond.privateMethod ({ cls := "DesertChannels$Reader", name := "word", desc := "(II)I" } : Jvm.MethodName)) ∈ lw_tbl := lw_at lw_m3 176 rfl
theorem q689 : (Jvm.Cond.instanceMethod ({ cls := "DesertChannels$Reader", name := "word", desc := "(II)I" } : Jvm.MethodName)) ∈ lw_all := lw_g (lw_at lw_m3 177 rfl) rfl
theorem q690 : (Jvm.Cond.code ({ cls := "DesertChannels$Reader", name := "word", desc := "(II)I" } : Jvm.MethodName) prog_3_method_4_code (8 : Nat) (Option.some Jvm.ClassFile.FieldType.int)) ∈ lw_all := lw_g (lw_at lw_m3 178 rfl) rfl
theorem q691 : (Jvm.Cond.methodLink "DesertChannels$Reader" (50 : Nat) ({ cls := "DesertChannels$Reader", name := "sign", desc := "()I" } : Jvm.MethodName)) ∈ lw_all := lw_g (lw_at lw_m3 179 rfl) rfl
theorem q692 : (Jvm.Cond.privateMethod ({ cls := "DesertChannels$Reader", name := "sign", desc := "()I" } : Jvm.MethodName)) ∈ lw_tbl := lw_at lw_m3 180 rfl
theorem q693 : (Jvm.Cond.instanceMethod ({ cls := "DesertChannels$Reader", name := "sign", desc := "()I" } : Jvm.MethodName)) ∈ lw_all := lw_g (lw_at lw_m3 181 rfl) rfl
theorem q694 : (Jvm.Cond.code ({ cls := "DesertChannels$Reader", name := "sign", desc := "()I" } : Jvm.MethodName) prog_3_method_3_code (1 : Nat) (Option.some Jvm.ClassFile.FieldType.int)) ∈ lw_all := lw_g (lw_at lw_m3 182 rfl) rfl
theorem q695 : (Jvm.Cond.methodLink "DesertChannels$Reader" (54 : Nat) ({ cls := "java/lang/String", name := "length", desc := "()I" } : Jvm.MethodName)) ∈ lw_all := lw_g (lw_at lw_m3 183 rfl) rfl
theorem q705 : (Jvm.Cond.methodLink "DesertChannels$Reader" (57 : Nat) ({ cls := "java/lang/String", name := "charAt", desc := "(I)C" } : Jvm.MethodName)) ∈ lw_all := lw_g (lw_at lw_m3 193 rfl) rfl
theorem q743 : (Jvm.Cond.methodLink "DesertChannels$Reader" (61 : Nat) ({ cls := "DesertChannels$Reader", name := "fail", desc := "(I)V" } : Jvm.MethodName)) ∈ lw_all := lw_g (lw_at lw_m3 231 rfl) rfl
theorem q744 : (Jvm.Cond.privateMethod ({ cls := "DesertChannels$Reader", name := "fail", desc := "(I)V" } : Jvm.MethodName)) ∈ lw_tbl := lw_at lw_m3 232 rfl
theorem q745 : (Jvm.Cond.instanceMethod ({ cls := "DesertChannels$Reader", name := "fail", desc := "(I)V" } : Jvm.MethodName)) ∈ lw_all := lw_g (lw_at lw_m3 233 rfl) rfl
theorem q746 : (Jvm.Cond.code ({ cls := "DesertChannels$Reader", name := "fail", desc := "(I)V" } : Jvm.MethodName) prog_3_method_2_code (2 : Nat) (Option.none : Option Jvm.ClassFile.FieldType)) ∈ lw_all := lw_g (lw_at lw_m3 234 rfl) rfl
theorem q747 : (Jvm.Cond.fieldLink "DesertChannels$Reader" (69 : Nat) "DesertChannels$Reader" "MOST" "[I") ∈ lw_all := lw_g (lw_at lw_m3 235 rfl) rfl
theorem q748 : (Jvm.Cond.laysStatic "DesertChannels$Reader" "MOST" "[I") ∈ lw_tbl := lw_at lw_m3 236 rfl
theorem q749 : (Jvm.Cond.methodLink "DesertChannels$Reader" (73 : Nat) ({ cls := "DesertChannels$Reader", name := "number", desc := "(I)I" } : Jvm.MethodName)) ∈ lw_all := lw_g (lw_at lw_m3 237 rfl) rfl
theorem q750 : (Jvm.Cond.privateMethod ({ cls := "DesertChannels$Reader", name := "number", desc := "(I)I" } : Jvm.MethodName)) ∈ lw_tbl := lw_at lw_m3 238 rfl
theorem q751 : (Jvm.Cond.instanceMethod ({ cls := "DesertChannels$Reader", name := "number", desc := "(I)I" } : Jvm.MethodName)) ∈ lw_all := lw_g (lw_at lw_m3 239 rfl) rfl
theorem q752 : (Jvm.Cond.code ({ cls := "DesertChannels$Reader", name := "number", desc := "(I)I" } : Jvm.MethodName) prog_3_method_5_code (5 : Nat) (Option.some Jvm.ClassFile.FieldType.int)) ∈ lw_all := lw_g (lw_at lw_m4 0 rfl) rfl
theorem q1099 : (Jvm.Cond.castable "DesertChannels$Reader" "java/lang/Object") ∈ lw_tbl := lw_at lw_m5 107 rfl
theorem in_X2 : ∀ w ∈ wsX20, w ∈ lw_all := lw_in wsX20 [159, 161, 163, 165, 167, 169] (by decide +kernel) (by decide +kernel)
theorem q38 : (Jvm.Cond.initialized "DesertChannels$Wrong") ∈ lw_all := lw_g (lw_at lw_m1 6 rfl) rfl
theorem q78 : (Jvm.Cond.instantiable "DesertChannels$Wrong" (7 : Nat)) ∈ lw_all := lw_g (lw_at lw_m1 46 rfl) rfl
theorem q79 : (Jvm.Cond.castable "DesertChannels$Wrong" "DesertChannels$Wrong") ∈ lw_tbl := lw_at lw_m1 47 rfl
theorem q86 : (Jvm.Cond.selects "DesertChannels$Wrong" ({ cls := "java/lang/Throwable", name := "fillInStackTrace", desc := "(I)Ljava/lang/Throwable;" } : Jvm.MethodName) ({ cls := "java/lang/Throwable", name := "fillInStackTrace", desc := "(I)Ljava/lang/Throwable;" } : Jvm.MethodName)) ∈ lw_all := lw_g (lw_at lw_m1 54 rfl) rfl
theorem q87 : (Jvm.Cond.selects "DesertChannels$Wrong" ({ cls := "java/lang/Throwable", name := "fillInStackTrace", desc := "()Ljava/lang/Throwable;" } : Jvm.MethodName) ({ cls := "java/lang/Throwable", name := "fillInStackTrace", desc := "()Ljava/lang/Throwable;" } : Jvm.MethodName)) ∈ lw_all := lw_g (lw_at lw_m1 55 rfl) rfl
theorem q88 : (Jvm.Cond.lays "DesertChannels$Wrong" "java/lang/Throwable" "cause" "Ljava/lang/Throwable;") ∈ lw_all := lw_g (lw_at lw_m1 56 rfl) rfl
theorem q90 : (Jvm.Cond.lays "DesertChannels$Wrong" "java/lang/Throwable" "stackTrace" "[Ljava/lang/StackTraceElement;") ∈ lw_all := lw_g (lw_at lw_m1 58 rfl) rfl
theorem q92 : (Jvm.Cond.lays "DesertChannels$Wrong" "java/lang/Throwable" "suppressedExceptions" "Ljava/util/List;") ∈ lw_all := lw_g (lw_at lw_m1 60 rfl) rfl
theorem q94 : (Jvm.Cond.lays "DesertChannels$Wrong" "java/lang/Throwable" "detailMessage" "Ljava/lang/String;") ∈ lw_all := lw_g (lw_at lw_m1 62 rfl) rfl
theorem q96 : (Jvm.Cond.lays "DesertChannels$Wrong" "java/lang/Throwable" "backtrace" "Ljava/lang/Object;") ∈ lw_all := lw_g (lw_at lw_m1 64 rfl) rfl
theorem q123 : (Jvm.Cond.instanceMethod ({ cls := "DesertChannels$Wrong", name := "<init>", desc := "()V" } : Jvm.MethodName)) ∈ lw_all := lw_g (lw_at lw_m1 91 rfl) rfl
theorem q124 : (Jvm.Cond.code ({ cls := "DesertChannels$Wrong", name := "<init>", desc := "()V" } : Jvm.MethodName) prog_6_method_1_code (1 : Nat) (Option.none : Option Jvm.ClassFile.FieldType)) ∈ lw_all := lw_g (lw_at lw_m1 92 rfl) rfl
theorem q125 : (Jvm.Cond.methodLink "DesertChannels$Wrong" (1 : Nat) ({ cls := "java/lang/RuntimeException", name := "<init>", desc := "(Ljava/lang/String;Ljava/lang/Throwable;ZZ)V" } : Jvm.MethodName)) ∈ lw_all := lw_g (lw_at lw_m1 93 rfl) rfl
theorem q141 : (Jvm.Cond.lays "DesertChannels$Wrong" "DesertChannels$Wrong" "place" "I") ∈ lw_all := lw_g (lw_at lw_m1 109 rfl) rfl
theorem q142 : (Jvm.Cond.soleField "DesertChannels$Wrong" "place") ∈ lw_all := lw_g (lw_at lw_m1 110 rfl) rfl
theorem q147 : (Jvm.Cond.lays "DesertChannels$Wrong" "java/lang/Throwable" "depth" "I") ∈ lw_all := lw_g (lw_at lw_m1 115 rfl) rfl
theorem q150 : (Jvm.Cond.superclass "DesertChannels$Wrong" "java/lang/RuntimeException") ∈ lw_all := lw_g (lw_at lw_m1 118 rfl) rfl
theorem q1100 : (Jvm.Cond.castable "DesertChannels$Wrong" "java/lang/Object") ∈ lw_tbl := lw_at lw_m5 108 rfl
theorem in_X3 : ∀ w ∈ wsX30, w ∈ lw_all := lw_in wsX30 [88, 90, 92, 94, 96, 147, 141] (by decide +kernel) (by decide +kernel)
theorem q39 : (Jvm.Cond.initialized "DesertChannelsModel") ∈ lw_all := lw_g (lw_at lw_m1 7 rfl) rfl
theorem q776 : (Jvm.Cond.instantiable "DesertChannelsModel" (36 : Nat)) ∈ lw_all := lw_g (lw_at lw_m4 24 rfl) rfl
theorem q778 : (Jvm.Cond.instanceMethod ({ cls := "DesertChannelsModel", name := "<init>", desc := "()V" } : Jvm.MethodName)) ∈ lw_all := lw_g (lw_at lw_m4 26 rfl) rfl
theorem q779 : (Jvm.Cond.code ({ cls := "DesertChannelsModel", name := "<init>", desc := "()V" } : Jvm.MethodName) prog_8_method_1_code (1 : Nat) (Option.none : Option Jvm.ClassFile.FieldType)) ∈ lw_all := lw_g (lw_at lw_m4 27 rfl) rfl
theorem q780 : (Jvm.Cond.methodLink "DesertChannelsModel" (1 : Nat) ({ cls := "java/lang/Object", name := "<init>", desc := "()V" } : Jvm.MethodName)) ∈ lw_all := lw_g (lw_at lw_m4 28 rfl) rfl
theorem q781 : (Jvm.Cond.fieldLink "DesertChannelsModel" (88 : Nat) "DesertChannelsModel" "thrown" "I") ∈ lw_all := lw_g (lw_at lw_m4 29 rfl) rfl
theorem q782 : (Jvm.Cond.fieldLink "DesertChannelsModel" (7 : Nat) "DesertChannelsModel" "head" "I") ∈ lw_all := lw_g (lw_at lw_m4 30 rfl) rfl
theorem q783 : (Jvm.Cond.fieldLink "DesertChannelsModel" (13 : Nat) "DesertChannelsModel" "slope" "I") ∈ lw_all := lw_g (lw_at lw_m4 31 rfl) rfl
theorem q784 : (Jvm.Cond.fieldLink "DesertChannelsModel" (126 : Nat) "DesertChannelsModel" "year" "I") ∈ lw_all := lw_g (lw_at lw_m4 32 rfl) rfl
theorem q785 : (Jvm.Cond.fieldLink "DesertChannelsModel" (159 : Nat) "DesertChannelsModel" "now" "I") ∈ lw_all := lw_g (lw_at lw_m4 33 rfl) rfl
theorem q786 : (Jvm.Cond.fieldLink "DesertChannelsModel" (16 : Nat) "DesertChannelsModel" "wells" "[I") ∈ lw_all := lw_g (lw_at lw_m4 34 rfl) rfl
theorem q787 : (Jvm.Cond.fieldLink "DesertChannelsModel" (20 : Nat) "DesertChannelsModel" "isDug" "[Z") ∈ lw_all := lw_g (lw_at lw_m4 35 rfl) rfl
theorem q788 : (Jvm.Cond.fieldLink "DesertChannelsModel" (24 : Nat) "DesertChannelsModel" "dugIn" "[I") ∈ lw_all := lw_g (lw_at lw_m4 36 rfl) rfl
theorem q789 : (Jvm.Cond.fieldLink "DesertChannelsModel" (27 : Nat) "DesertChannelsModel" "order" "[I") ∈ lw_all := lw_g (lw_at lw_m4 37 rfl) rfl
theorem q790 : (Jvm.Cond.fieldLink "DesertChannelsModel" (30 : Nat) "DesertChannelsModel" "turn" "[I") ∈ lw_all := lw_g (lw_at lw_m4 38 rfl) rfl
theorem q791 : (Jvm.Cond.fieldLink "DesertChannelsModel" (91 : Nat) "DesertChannelsModel" "channels" "I") ∈ lw_all := lw_g (lw_at lw_m4 39 rfl) rfl
theorem q792 : (Jvm.Cond.fieldLink "DesertChannelsModel" (129 : Nat) "DesertChannelsModel" "dug" "I") ∈ lw_all := lw_g (lw_at lw_m4 40 rfl) rfl
theorem q793 : (Jvm.Cond.fieldLink "DesertChannelsModel" (33 : Nat) "DesertChannelsModel" "wx" "[I") ∈ lw_all := lw_g (lw_at lw_m4 41 rfl) rfl
theorem q794 : (Jvm.Cond.fieldLink "DesertChannelsModel" (36 : Nat) "DesertChannelsModel" "wy" "[I") ∈ lw_all := lw_g (lw_at lw_m4 42 rfl) rfl
theorem q795 : (Jvm.Cond.fieldLink "DesertChannelsModel" (39 : Nat) "DesertChannelsModel" "floor" "[I") ∈ lw_all := lw_g (lw_at lw_m4 43 rfl) rfl
theorem q796 : (Jvm.Cond.fieldLink "DesertChannelsModel" (42 : Nat) "DesertChannelsModel" "isDown" "[Z") ∈ lw_all := lw_g (lw_at lw_m4 44 rfl) rfl
theorem q797 : (Jvm.Cond.fieldLink "DesertChannelsModel" (45 : Nat) "DesertChannelsModel" "share" "[I") ∈ lw_all := lw_g (lw_at lw_m4 45 rfl) rfl
theorem q798 : (Jvm.Cond.fieldLink "DesertChannelsModel" (102 : Nat) "DesertChannelsModel" "shares" "I") ∈ lw_all := lw_g (lw_at lw_m4 46 rfl) rfl
theorem q799 : (Jvm.Cond.fieldLink "DesertChannelsModel" (48 : Nat) "DesertChannelsModel" "who" "[I") ∈ lw_all := lw_g (lw_at lw_m4 47 rfl) rfl
theorem q800 : (Jvm.Cond.fieldLink "DesertChannelsModel" (51 : Nat) "DesertChannelsModel" "part" "[I") ∈ lw_all := lw_g (lw_at lw_m4 48 rfl) rfl
theorem q801 : (Jvm.Cond.fieldLink "DesertChannelsModel" (54 : Nat) "DesertChannelsModel" "length" "[I") ∈ lw_all := lw_g (lw_at lw_m4 49 rfl) rfl
theorem q802 : (Jvm.Cond.fieldLink "DesertChannelsModel" (57 : Nat) "DesertChannelsModel" "says" "[I") ∈ lw_all := lw_g (lw_at lw_m4 50 rfl) rfl
theorem q803 : (Jvm.Cond.fieldLink "DesertChannelsModel" (60 : Nat) "DesertChannelsModel" "draft" "[I") ∈ lw_all := lw_g (lw_at lw_m4 51 rfl) rfl
theorem q804 : (Jvm.Cond.fieldLink "DesertChannelsModel" (63 : Nat) "DesertChannelsModel" "tape" "[B") ∈ lw_all := lw_g (lw_at lw_m4 52 rfl) rfl
theorem q805 : (Jvm.Cond.fieldLink "DesertChannelsModel" (173 : Nat) "DesertChannelsModel" "taped" "I") ∈ lw_all := lw_g (lw_at lw_m4 53 rfl) rfl
theorem q806 : (Jvm.Cond.fieldLink "DesertChannelsModel" (176 : Nat) "DesertChannelsModel" "point" "I") ∈ lw_all := lw_g (lw_at lw_m4 54 rfl) rfl
theorem q807 : (Jvm.Cond.fieldLink "DesertChannelsModel" (179 : Nat) "DesertChannelsModel" "end" "I") ∈ lw_all := lw_g (lw_at lw_m4 55 rfl) rfl
theorem q808 : (Jvm.Cond.fieldLink "DesertChannelsModel" (185 : Nat) "DesertChannelsModel" "begin" "I") ∈ lw_all := lw_g (lw_at lw_m4 56 rfl) rfl
theorem q809 : (Jvm.Cond.fieldLink "DesertChannelsModel" (67 : Nat) "DesertChannelsModel" "faultAt" "I") ∈ lw_all := lw_g (lw_at lw_m4 57 rfl) rfl
theorem q810 : (Jvm.Cond.fieldLink "DesertChannelsModel" (70 : Nat) "DesertChannelsModel" "five" "[I") ∈ lw_all := lw_g (lw_at lw_m4 58 rfl) rfl
theorem q811 : (Jvm.Cond.fieldLink "DesertChannelsModel" (73 : Nat) "DesertChannelsModel" "minutesOf" "[I") ∈ lw_all := lw_g (lw_at lw_m4 59 rfl) rfl
theorem q812 : (Jvm.Cond.fieldLink "DesertChannelsModel" (76 : Nat) "DesertChannelsModel" "need" "[I") ∈ lw_all := lw_g (lw_at lw_m4 60 rfl) rfl
theorem q813 : (Jvm.Cond.fieldLink "DesertChannelsModel" (79 : Nat) "DesertChannelsModel" "due" "[I") ∈ lw_all := lw_g (lw_at lw_m4 61 rfl) rfl
theorem q814 : (Jvm.Cond.fieldLink "DesertChannelsModel" (82 : Nat) "DesertChannelsModel" "loss" "[I") ∈ lw_all := lw_g (lw_at lw_m4 62 rfl) rfl
theorem q815 : (Jvm.Cond.fieldLink "DesertChannelsModel" (233 : Nat) "DesertChannelsModel" "fields" "I") ∈ lw_all := lw_g (lw_at lw_m4 63 rfl) rfl
theorem q816 : (Jvm.Cond.fieldLink "DesertChannelsModel" (85 : Nat) "DesertChannelsModel" "lost" "[I") ∈ lw_all := lw_g (lw_at lw_m4 64 rfl) rfl
theorem q817 : (Jvm.Cond.lays "DesertChannelsModel" "DesertChannelsModel" "thrown" "I") ∈ lw_all := lw_g (lw_at lw_m4 65 rfl) rfl
theorem q818 : (Jvm.Cond.soleField "DesertChannelsModel" "thrown") ∈ lw_all := lw_g (lw_at lw_m4 66 rfl) rfl
theorem q819 : (Jvm.Cond.lays "DesertChannelsModel" "DesertChannelsModel" "head" "I") ∈ lw_all := lw_g (lw_at lw_m4 67 rfl) rfl
theorem q820 : (Jvm.Cond.soleField "DesertChannelsModel" "head") ∈ lw_all := lw_g (lw_at lw_m4 68 rfl) rfl
theorem q821 : (Jvm.Cond.lays "DesertChannelsModel" "DesertChannelsModel" "slope" "I") ∈ lw_all := lw_g (lw_at lw_m4 69 rfl) rfl
theorem q822 : (Jvm.Cond.soleField "DesertChannelsModel" "slope") ∈ lw_all := lw_g (lw_at lw_m4 70 rfl) rfl
theorem q823 : (Jvm.Cond.lays "DesertChannelsModel" "DesertChannelsModel" "year" "I") ∈ lw_all := lw_g (lw_at lw_m4 71 rfl) rfl
theorem q824 : (Jvm.Cond.soleField "DesertChannelsModel" "year") ∈ lw_all := lw_g (lw_at lw_m4 72 rfl) rfl
theorem q825 : (Jvm.Cond.lays "DesertChannelsModel" "DesertChannelsModel" "now" "I") ∈ lw_all := lw_g (lw_at lw_m4 73 rfl) rfl
theorem q826 : (Jvm.Cond.soleField "DesertChannelsModel" "now") ∈ lw_all := lw_g (lw_at lw_m4 74 rfl) rfl
theorem q827 : (Jvm.Cond.laysFinal "DesertChannelsModel" "DesertChannelsModel" "wells" "[I") ∈ lw_all := lw_g (lw_at lw_m4 75 rfl) rfl
theorem q828 : (Jvm.Cond.soleField "DesertChannelsModel" "wells") ∈ lw_all := lw_g (lw_at lw_m4 76 rfl) rfl
theorem q829 : (Jvm.Cond.laysFinal "DesertChannelsModel" "DesertChannelsModel" "isDug" "[Z") ∈ lw_all := lw_g (lw_at lw_m4 77 rfl) rfl
theorem q830 : (Jvm.Cond.soleField "DesertChannelsModel" "isDug") ∈ lw_all := lw_g (lw_at lw_m4 78 rfl) rfl
theorem q831 : (Jvm.Cond.laysFinal "DesertChannelsModel" "DesertChannelsModel" "dugIn" "[I") ∈ lw_all := lw_g (lw_at lw_m4 79 rfl) rfl
theorem q832 : (Jvm.Cond.soleField "DesertChannelsModel" "dugIn") ∈ lw_all := lw_g (lw_at lw_m4 80 rfl) rfl
theorem q833 : (Jvm.Cond.laysFinal "DesertChannelsModel" "DesertChannelsModel" "order" "[I") ∈ lw_all := lw_g (lw_at lw_m4 81 rfl) rfl
theorem q834 : (Jvm.Cond.soleField "DesertChannelsModel" "order") ∈ lw_all := lw_g (lw_at lw_m4 82 rfl) rfl
theorem q835 : (Jvm.Cond.laysFinal "DesertChannelsModel" "DesertChannelsModel" "turn" "[I") ∈ lw_all := lw_g (lw_at lw_m4 83 rfl) rfl
theorem q836 : (Jvm.Cond.soleField "DesertChannelsModel" "turn") ∈ lw_all := lw_g (lw_at lw_m4 84 rfl) rfl
theorem q837 : (Jvm.Cond.lays "DesertChannelsModel" "DesertChannelsModel" "channels" "I") ∈ lw_all := lw_g (lw_at lw_m4 85 rfl) rfl
theorem q838 : (Jvm.Cond.soleField "DesertChannelsModel" "channels") ∈ lw_all := lw_g (lw_at lw_m4 86 rfl) rfl
theorem q839 : (Jvm.Cond.lays "DesertChannelsModel" "DesertChannelsModel" "dug" "I") ∈ lw_all := lw_g (lw_at lw_m4 87 rfl) rfl
theorem q840 : (Jvm.Cond.soleField "DesertChannelsModel" "dug") ∈ lw_all := lw_g (lw_at lw_m4 88 rfl) rfl
theorem q841 : (Jvm.Cond.laysFinal "DesertChannelsModel" "DesertChannelsModel" "wx" "[I") ∈ lw_all := lw_g (lw_at lw_m4 89 rfl) rfl
theorem q842 : (Jvm.Cond.soleField "DesertChannelsModel" "wx") ∈ lw_all := lw_g (lw_at lw_m4 90 rfl) rfl
theorem q843 : (Jvm.Cond.laysFinal "DesertChannelsModel" "DesertChannelsModel" "wy" "[I") ∈ lw_all := lw_g (lw_at lw_m4 91 rfl) rfl
theorem q844 : (Jvm.Cond.soleField "DesertChannelsModel" "wy") ∈ lw_all := lw_g (lw_at lw_m4 92 rfl) rfl
theorem q845 : (Jvm.Cond.laysFinal "DesertChannelsModel" "DesertChannelsModel" "floor" "[I") ∈ lw_all := lw_g (lw_at lw_m4 93 rfl) rfl
theorem q846 : (Jvm.Cond.soleField "DesertChannelsModel" "floor") ∈ lw_all := lw_g (lw_at lw_m4 94 rfl) rfl
theorem q847 : (Jvm.Cond.laysFinal "DesertChannelsModel" "DesertChannelsModel" "isDown" "[Z") ∈ lw_all := lw_g (lw_at lw_m4 95 rfl) rfl
theorem q848 : (Jvm.Cond.soleField "DesertChannelsModel" "isDown") ∈ lw_all := lw_g (lw_at lw_m4 96 rfl) rfl
theorem q849 : (Jvm.Cond.laysFinal "DesertChannelsModel" "DesertChannelsModel" "share" "[I") ∈ lw_all := lw_g (lw_at lw_m4 97 rfl) rfl
theorem q850 : (Jvm.Cond.soleField "DesertChannelsModel" "share") ∈ lw_all := lw_g (lw_at lw_m4 98 rfl) rfl
theorem q851 : (Jvm.Cond.lays "DesertChannelsModel" "DesertChannelsModel" "shares" "I") ∈ lw_all := lw_g (lw_at lw_m4 99 rfl) rfl
theorem q852 : (Jvm.Cond.soleField "DesertChannelsModel" "shares") ∈ lw_all := lw_g (lw_at lw_m4 100 rfl) rfl
theorem q853 : (Jvm.Cond.laysFinal "DesertChannelsModel" "DesertChannelsModel" "who" "[I") ∈ lw_all := lw_g (lw_at lw_m4 101 rfl) rfl
theorem q854 : (Jvm.Cond.soleField "DesertChannelsModel" "who") ∈ lw_all := lw_g (lw_at lw_m4 102 rfl) rfl
theorem q855 : (Jvm.Cond.laysFinal "DesertChannelsModel" "DesertChannelsModel" "part" "[I") ∈ lw_all := lw_g (lw_at lw_m4 103 rfl) rfl
theorem q856 : (Jvm.Cond.soleField "DesertChannelsModel" "part") ∈ lw_all := lw_g (lw_at lw_m4 104 rfl) rfl
theorem q857 : (Jvm.Cond.laysFinal "DesertChannelsModel" "DesertChannelsModel" "length" "[I") ∈ lw_all := lw_g (lw_at lw_m4 105 rfl) rfl
theorem q858 : (Jvm.Cond.soleField "DesertChannelsModel" "length") ∈ lw_all := lw_g (lw_at lw_m4 106 rfl) rfl
theorem q859 : (Jvm.Cond.laysFinal "DesertChannelsModel" "DesertChannelsModel" "says" "[I") ∈ lw_all := lw_g (lw_at lw_m4 107 rfl) rfl
theorem q860 : (Jvm.Cond.soleField "DesertChannelsModel" "says") ∈ lw_all := lw_g (lw_at lw_m4 108 rfl) rfl
theorem q861 : (Jvm.Cond.laysFinal "DesertChannelsModel" "DesertChannelsModel" "draft" "[I") ∈ lw_all := lw_g (lw_at lw_m4 109 rfl) rfl
theorem q862 : (Jvm.Cond.soleField "DesertChannelsModel" "draft") ∈ lw_all := lw_g (lw_at lw_m4 110 rfl) rfl
theorem q863 : (Jvm.Cond.laysFinal "DesertChannelsModel" "DesertChannelsModel" "tape" "[B") ∈ lw_all := lw_g (lw_at lw_m4 111 rfl) rfl
theorem q864 : (Jvm.Cond.soleField "DesertChannelsModel" "tape") ∈ lw_all := lw_g (lw_at lw_m4 112 rfl) rfl
theorem q865 : (Jvm.Cond.lays "DesertChannelsModel" "DesertChannelsModel" "taped" "I") ∈ lw_all := lw_g (lw_at lw_m4 113 rfl) rfl
theorem q866 : (Jvm.Cond.soleField "DesertChannelsModel" "taped") ∈ lw_all := lw_g (lw_at lw_m4 114 rfl) rfl
theorem q867 : (Jvm.Cond.lays "DesertChannelsModel" "DesertChannelsModel" "point" "I") ∈ lw_all := lw_g (lw_at lw_m4 115 rfl) rfl
theorem q868 : (Jvm.Cond.soleField "DesertChannelsModel" "point") ∈ lw_all := lw_g (lw_at lw_m4 116 rfl) rfl
theorem q869 : (Jvm.Cond.lays "DesertChannelsModel" "DesertChannelsModel" "end" "I") ∈ lw_all := lw_g (lw_at lw_m4 117 rfl) rfl
theorem q870 : (Jvm.Cond.soleField "DesertChannelsModel" "end") ∈ lw_all := lw_g (lw_at lw_m4 118 rfl) rfl
theorem q871 : (Jvm.Cond.lays "DesertChannelsModel" "DesertChannelsModel" "begin" "I") ∈ lw_all := lw_g (lw_at lw_m4 119 rfl) rfl
theorem q872 : (Jvm.Cond.soleField "DesertChannelsModel" "begin") ∈ lw_all := lw_g (lw_at lw_m4 120 rfl) rfl
theorem q873 : (Jvm.Cond.lays "DesertChannelsModel" "DesertChannelsModel" "faultAt" "I") ∈ lw_all := lw_g (lw_at lw_m4 121 rfl) rfl
theorem q874 : (Jvm.Cond.soleField "DesertChannelsModel" "faultAt") ∈ lw_all := lw_g (lw_at lw_m4 122 rfl) rfl
theorem q875 : (Jvm.Cond.laysFinal "DesertChannelsModel" "DesertChannelsModel" "five" "[I") ∈ lw_all := lw_g (lw_at lw_m4 123 rfl) rfl
theorem q876 : (Jvm.Cond.soleField "DesertChannelsModel" "five") ∈ lw_all := lw_g (lw_at lw_m4 124 rfl) rfl
theorem q877 : (Jvm.Cond.laysFinal "DesertChannelsModel" "DesertChannelsModel" "minutesOf" "[I") ∈ lw_all := lw_g (lw_at lw_m4 125 rfl) rfl
theorem q878 : (Jvm.Cond.soleField "DesertChannelsModel" "minutesOf") ∈ lw_all := lw_g (lw_at lw_m4 126 rfl) rfl
theorem q879 : (Jvm.Cond.laysFinal "DesertChannelsModel" "DesertChannelsModel" "need" "[I") ∈ lw_all := lw_g (lw_at lw_m4 127 rfl) rfl
theorem q880 : (Jvm.Cond.soleField "DesertChannelsModel" "need") ∈ lw_all := lw_g (lw_at lw_m4 128 rfl) rfl
theorem q881 : (Jvm.Cond.laysFinal "DesertChannelsModel" "DesertChannelsModel" "due" "[I") ∈ lw_all := lw_g (lw_at lw_m4 129 rfl) rfl
theorem q882 : (Jvm.Cond.soleField "DesertChannelsModel" "due") ∈ lw_all := lw_g (lw_at lw_m4 130 rfl) rfl
theorem q883 : (Jvm.Cond.laysFinal "DesertChannelsModel" "DesertChannelsModel" "loss" "[I") ∈ lw_all := lw_g (lw_at lw_m4 131 rfl) rfl
theorem q884 : (Jvm.Cond.soleField "DesertChannelsModel" "loss") ∈ lw_all := lw_g (lw_at lw_m4 132 rfl) rfl
theorem q885 : (Jvm.Cond.lays "DesertChannelsModel" "DesertChannelsModel" "fields" "I") ∈ lw_all := lw_g (lw_at lw_m4 133 rfl) rfl
theorem q886 : (Jvm.Cond.soleField "DesertChannelsModel" "fields") ∈ lw_all := lw_g (lw_at lw_m4 134 rfl) rfl
theorem q887 : (Jvm.Cond.laysFinal "DesertChannelsModel" "DesertChannelsModel" "lost" "[I") ∈ lw_all := lw_g (lw_at lw_m4 135 rfl) rfl
theorem q888 : (Jvm.Cond.soleField "DesertChannelsModel" "lost") ∈ lw_all := lw_g (lw_at lw_m4 136 rfl) rfl
theorem q889 : (Jvm.Cond.superclass "DesertChannelsModel" "java/lang/Object") ∈ lw_all := lw_g (lw_at lw_m4 137 rfl) rfl
theorem q892 : (Jvm.Cond.instanceMethod ({ cls := "DesertChannelsModel", name := "thrown", desc := "()I" } : Jvm.MethodName)) ∈ lw_all := lw_g (lw_at lw_m4 140 rfl) rfl
theorem q893 : (Jvm.Cond.selects "DesertChannelsModel" ({ cls := "DesertChannelsModel", name := "thrown", desc := "()I" } : Jvm.MethodName) ({ cls := "DesertChannelsModel", name := "thrown", desc := "()I" } : Jvm.MethodName)) ∈ lw_all := lw_g (lw_at lw_m4 141 rfl) rfl
theorem q894 : (Jvm.Cond.code ({ cls := "DesertChannelsModel", name := "thrown", desc := "()I" } : Jvm.MethodName) prog_8_method_2_code (1 : Nat) (Option.some Jvm.ClassFile.FieldType.int)) ∈ lw_all := lw_g (lw_at lw_m4 142 rfl) rfl
theorem q896 : (Jvm.Cond.instanceMethod ({ cls := "DesertChannelsModel", name := "ground", desc := "(II)V" } : Jvm.MethodName)) ∈ lw_all := lw_g (lw_at lw_m4 144 rfl) rfl
theorem q897 : (Jvm.Cond.selects "DesertChannelsModel" ({ cls := "DesertChannelsModel", name := "ground", desc := "(II)V" } : Jvm.MethodName) ({ cls := "DesertChannelsModel", name := "ground", desc := "(II)V" } : Jvm.MethodName)) ∈ lw_all := lw_g (lw_at lw_m4 145 rfl) rfl
theorem q898 : (Jvm.Cond.code ({ cls := "DesertChannelsModel", name := "ground", desc := "(II)V" } : Jvm.MethodName) prog_8_method_8_code (3 : Nat) (Option.none : Option Jvm.ClassFile.FieldType)) ∈ lw_all := lw_g (lw_at lw_m4 146 rfl) rfl
theorem q899 : (Jvm.Cond.methodLink "DesertChannelsModel" (94 : Nat) ({ cls := "DesertChannelsModel", name := "in", desc := "(III)Z" } : Jvm.MethodName)) ∈ lw_all := lw_g (lw_at lw_m4 147 rfl) rfl
theorem q900 : (Jvm.Cond.static ({ cls := "DesertChannelsModel", name := "in", desc := "(III)Z" } : Jvm.MethodName)) ∈ lw_all := lw_g (lw_at lw_m4 148 rfl) rfl
theorem q901 : (Jvm.Cond.code ({ cls := "DesertChannelsModel", name := "in", desc := "(III)Z" } : Jvm.MethodName) prog_8_method_4_code (3 : Nat) (Option.some Jvm.ClassFile.FieldType.boolean)) ∈ lw_all := lw_g (lw_at lw_m4 149 rfl) rfl
theorem q902 : (Jvm.Cond.methodLink "DesertChannelsModel" (105 : Nat) ({ cls := "DesertChannelsModel", name := "throwsIf", desc := "(ZI)Z" } : Jvm.MethodName)) ∈ lw_all := lw_g (lw_at lw_m4 150 rfl) rfl
theorem q903 : (Jvm.Cond.privateMethod ({ cls := "DesertChannelsModel", name := "throwsIf", desc := "(ZI)Z" } : Jvm.MethodName)) ∈ lw_tbl := lw_at lw_m4 151 rfl
theorem q904 : (Jvm.Cond.instanceMethod ({ cls := "DesertChannelsModel", name := "throwsIf", desc := "(ZI)Z" } : Jvm.MethodName)) ∈ lw_all := lw_g (lw_at lw_m4 152 rfl) rfl
theorem q905 : (Jvm.Cond.code ({ cls := "DesertChannelsModel", name := "throwsIf", desc := "(ZI)Z" } : Jvm.MethodName) prog_8_method_3_code (3 : Nat) (Option.some Jvm.ClassFile.FieldType.boolean)) ∈ lw_all := lw_g (lw_at lw_m4 153 rfl) rfl
theorem q907 : (Jvm.Cond.instanceMethod ({ cls := "DesertChannelsModel", name := "channel", desc := "()I" } : Jvm.MethodName)) ∈ lw_all := lw_g (lw_at lw_m4 155 rfl) rfl
theorem q908 : (Jvm.Cond.selects "DesertChannelsModel" ({ cls := "DesertChannelsModel", name := "channel", desc := "()I" } : Jvm.MethodName) ({ cls := "DesertChannelsModel", name := "channel", desc := "()I" } : Jvm.MethodName)) ∈ lw_all := lw_g (lw_at lw_m4 156 rfl) rfl
theorem q909 : (Jvm.Cond.code ({ cls := "DesertChannelsModel", name := "channel", desc := "()I" } : Jvm.MethodName) prog_8_method_9_code (1 : Nat) (Option.some Jvm.ClassFile.FieldType.int)) ∈ lw_all := lw_g (lw_at lw_m4 157 rfl) rfl
theorem q911 : (Jvm.Cond.instanceMethod ({ cls := "DesertChannelsModel", name := "well", desc := "(IIII)I" } : Jvm.MethodName)) ∈ lw_all := lw_g (lw_at lw_m4 159 rfl) rfl
theorem q912 : (Jvm.Cond.selects "DesertChannelsModel" ({ cls := "DesertChannelsModel", name := "well", desc := "(IIII)I" } : Jvm.MethodName) ({ cls := "DesertChannelsModel", name := "well", desc := "(IIII)I" } : Jvm.MethodName)) ∈ lw_all := lw_g (lw_at lw_m4 160 rfl) rfl
theorem q913 : (Jvm.Cond.code ({ cls := "DesertChannelsModel", name := "well", desc := "(IIII)I" } : Jvm.MethodName) prog_8_method_10_code (7 : Nat) (Option.some Jvm.ClassFile.FieldType.int)) ∈ lw_all := lw_g (lw_at lw_m4 161 rfl) rfl
theorem q914 : (Jvm.Cond.methodLink "DesertChannelsModel" (98 : Nat) ({ cls := "DesertChannelsModel", name := "noChannel", desc := "(I)Z" } : Jvm.MethodName)) ∈ lw_all := lw_g (lw_at lw_m4 162 rfl) rfl
theorem q915 : (Jvm.Cond.privateMethod ({ cls := "DesertChannelsModel", name := "noChannel", desc := "(I)Z" } : Jvm.MethodName)) ∈ lw_tbl := lw_at lw_m4 163 rfl
theorem q916 : (Jvm.Cond.instanceMethod ({ cls := "DesertChannelsModel", name := "noChannel", desc := "(I)Z" } : Jvm.MethodName)) ∈ lw_all := lw_g (lw_at lw_m4 164 rfl) rfl
theorem q917 : (Jvm.Cond.code ({ cls := "DesertChannelsModel", name := "noChannel", desc := "(I)Z" } : Jvm.MethodName) prog_8_method_5_code (2 : Nat) (Option.some Jvm.ClassFile.FieldType.boolean)) ∈ lw_all := lw_g (lw_at lw_m4 165 rfl) rfl
theorem q919 : (Jvm.Cond.instanceMethod ({ cls := "DesertChannelsModel", name := "may", desc := "(I)Z" } : Jvm.MethodName)) ∈ lw_all := lw_g (lw_at lw_m4 167 rfl) rfl
theorem q920 : (Jvm.Cond.selects "DesertChannelsModel" ({ cls := "DesertChannelsModel", name := "may", desc := "(I)Z" } : Jvm.MethodName) ({ cls := "DesertChannelsModel", name := "may", desc := "(I)Z" } : Jvm.MethodName)) ∈ lw_all := lw_g (lw_at lw_m4 168 rfl) rfl
theorem q921 : (Jvm.Cond.code ({ cls := "DesertChannelsModel", name := "may", desc := "(I)Z" } : Jvm.MethodName) prog_8_method_13_code (2 : Nat) (Option.some Jvm.ClassFile.FieldType.boolean)) ∈ lw_all := lw_g (lw_at lw_m4 169 rfl) rfl
theorem q922 : (Jvm.Cond.methodLink "DesertChannelsModel" (123 : Nat) ({ cls := "DesertChannelsModel", name := "mayBe", desc := "(I)Z" } : Jvm.MethodName)) ∈ lw_all := lw_g (lw_at lw_m4 170 rfl) rfl
theorem q923 : (Jvm.Cond.privateMethod ({ cls := "DesertChannelsModel", name := "mayBe", desc := "(I)Z" } : Jvm.MethodName)) ∈ lw_tbl := lw_at lw_m4 171 rfl
theorem q924 : (Jvm.Cond.instanceMethod ({ cls := "DesertChannelsModel", name := "mayBe", desc := "(I)Z" } : Jvm.MethodName)) ∈ lw_all := lw_g (lw_at lw_m4 172 rfl) rfl
theorem q925 : (Jvm.Cond.code ({ cls := "DesertChannelsModel", name := "mayBe", desc := "(I)Z" } : Jvm.MethodName) prog_8_method_12_code (5 : Nat) (Option.some Jvm.ClassFile.FieldType.boolean)) ∈ lw_all := lw_g (lw_at lw_m4 173 rfl) rfl
theorem q926 : (Jvm.Cond.methodLink "DesertChannelsModel" (119 : Nat) ({ cls := "DesertChannelsModel", name := "steps", desc := "(IIII)I" } : Jvm.MethodName)) ∈ lw_all := lw_g (lw_at lw_m4 174 rfl) rfl
theorem q927 : (Jvm.Cond.static ({ cls := "DesertChannelsModel", name := "steps", desc := "(IIII)I" } : Jvm.MethodName)) ∈ lw_all := lw_g (lw_at lw_m4 175 rfl) rfl
theorem q928 : (Jvm.Cond.code ({ cls := "DesertChannelsModel", name := "steps", desc := "(IIII)I" } : Jvm.MethodName) prog_8_method_11_code (4 : Nat) (Option.some Jvm.ClassFile.FieldType.int)) ∈ lw_all := lw_g (lw_at lw_m4 176 rfl) rfl
theorem q929 : (Jvm.Cond.methodLink "DesertChannelsModel" (109 : Nat) ({ cls := "java/lang/Math", name := "abs", desc := "(I)I" } : Jvm.MethodName)) ∈ lw_all := lw_g (lw_at lw_m4 177 rfl) rfl
theorem q930 : (Jvm.Cond.methodLink "DesertChannelsModel" (115 : Nat) ({ cls := "java/lang/Math", name := "max", desc := "(II)I" } : Jvm.MethodName)) ∈ lw_all := lw_g (lw_at lw_m4 178 rfl) rfl
theorem q932 : (Jvm.Cond.instanceMethod ({ cls := "DesertChannelsModel", name := "dig", desc := "(III)I" } : Jvm.MethodName)) ∈ lw_all := lw_g (lw_at lw_m4 180 rfl) rfl
theorem q933 : (Jvm.Cond.selects "DesertChannelsModel" ({ cls := "DesertChannelsModel", name := "dig", desc := "(III)I" } : Jvm.MethodName) ({ cls := "DesertChannelsModel", name := "dig", desc := "(III)I" } : Jvm.MethodName)) ∈ lw_all := lw_g (lw_at lw_m4 181 rfl) rfl
theorem q934 : (Jvm.Cond.code ({ cls := "DesertChannelsModel", name := "dig", desc := "(III)I" } : Jvm.MethodName) prog_8_method_14_code (4 : Nat) (Option.some Jvm.ClassFile.FieldType.int)) ∈ lw_all := lw_g (lw_at lw_m4 182 rfl) rfl
theorem q935 : (Jvm.Cond.methodLink "DesertChannelsModel" (132 : Nat) ({ cls := "DesertChannelsModel", name := "adds", desc := "(IIII)V" } : Jvm.MethodName)) ∈ lw_all := lw_g (lw_at lw_m4 183 rfl) rfl
theorem q936 : (Jvm.Cond.privateMethod ({ cls := "DesertChannelsModel", name := "adds", desc := "(IIII)V" } : Jvm.MethodName)) ∈ lw_tbl := lw_at lw_m4 184 rfl
theorem q937 : (Jvm.Cond.instanceMethod ({ cls := "DesertChannelsModel", name := "adds", desc := "(IIII)V" } : Jvm.MethodName)) ∈ lw_all := lw_g (lw_at lw_m4 185 rfl) rfl
theorem q938 : (Jvm.Cond.code ({ cls := "DesertChannelsModel", name := "adds", desc := "(IIII)V" } : Jvm.MethodName) prog_8_method_25_code (5 : Nat) (Option.none : Option Jvm.ClassFile.FieldType)) ∈ lw_all := lw_g (lw_at lw_m4 186 rfl) rfl
theorem q939 : (Jvm.Cond.methodLink "DesertChannelsModel" (156 : Nat) ({ cls := "DesertChannelsModel", name := "sets", desc := "(IIII)V" } : Jvm.MethodName)) ∈ lw_all := lw_g (lw_at lw_m4 187 rfl) rfl
theorem q940 : (Jvm.Cond.privateMethod ({ cls := "DesertChannelsModel", name := "sets", desc := "(IIII)V" } : Jvm.MethodName)) ∈ lw_tbl := lw_at lw_m4 188 rfl
theorem q941 : (Jvm.Cond.instanceMethod ({ cls := "DesertChannelsModel", name := "sets", desc := "(IIII)V" } : Jvm.MethodName)) ∈ lw_all := lw_g (lw_at lw_m4 189 rfl) rfl
theorem q942 : (Jvm.Cond.code ({ cls := "DesertChannelsModel", name := "sets", desc := "(IIII)V" } : Jvm.MethodName) prog_8_method_24_code (6 : Nat) (Option.none : Option Jvm.ClassFile.FieldType)) ∈ lw_all := lw_g (lw_at lw_m4 190 rfl) rfl
theorem q944 : (Jvm.Cond.instanceMethod ({ cls := "DesertChannelsModel", name := "years", desc := "(I)I" } : Jvm.MethodName)) ∈ lw_all := lw_g (lw_at lw_m4 192 rfl) rfl
theorem q945 : (Jvm.Cond.selects "DesertChannelsModel" ({ cls := "DesertChannelsModel", name := "years", desc := "(I)I" } : Jvm.MethodName) ({ cls := "DesertChannelsModel", name := "years", desc := "(I)I" } : Jvm.MethodName)) ∈ lw_all := lw_g (lw_at lw_m4 193 rfl) rfl
theorem q946 : (Jvm.Cond.code ({ cls := "DesertChannelsModel", name := "years", desc := "(I)I" } : Jvm.MethodName) prog_8_method_15_code (2 : Nat) (Option.some Jvm.ClassFile.FieldType.int)) ∈ lw_all := lw_g (lw_at lw_m4 194 rfl) rfl
theorem q948 : (Jvm.Cond.instanceMethod ({ cls := "DesertChannelsModel", name := "collapse", desc := "(IIZ)Z" } : Jvm.MethodName)) ∈ lw_all := lw_g (lw_at lw_m4 196 rfl) rfl
theorem q949 : (Jvm.Cond.selects "DesertChannelsModel" ({ cls := "DesertChannelsModel", name := "collapse", desc := "(IIZ)Z" } : Jvm.MethodName) ({ cls := "DesertChannelsModel", name := "collapse", desc := "(IIZ)Z" } : Jvm.MethodName)) ∈ lw_all := lw_g (lw_at lw_m4 197 rfl) rfl
theorem q950 : (Jvm.Cond.code ({ cls := "DesertChannelsModel", name := "collapse", desc := "(IIZ)Z" } : Jvm.MethodName) prog_8_method_16_code (5 : Nat) (Option.some Jvm.ClassFile.FieldType.boolean)) ∈ lw_all := lw_g (lw_at lw_m4 198 rfl) rfl
theorem q951 : (Jvm.Cond.methodLink "DesertChannelsModel" (136 : Nat) ({ cls := "DesertChannelsModel", name := "noWell", desc := "(II)Z" } : Jvm.MethodName)) ∈ lw_all := lw_g (lw_at lw_m4 199 rfl) rfl
theorem q952 : (Jvm.Cond.privateMethod ({ cls := "DesertChannelsModel", name := "noWell", desc := "(II)Z" } : Jvm.MethodName)) ∈ lw_tbl := lw_at lw_m4 200 rfl
theorem q953 : (Jvm.Cond.instanceMethod ({ cls := "DesertChannelsModel", name := "noWell", desc := "(II)Z" } : Jvm.MethodName)) ∈ lw_all := lw_g (lw_at lw_m4 201 rfl) rfl
theorem q954 : (Jvm.Cond.code ({ cls := "DesertChannelsModel", name := "noWell", desc := "(II)Z" } : Jvm.MethodName) prog_8_method_6_code (3 : Nat) (Option.some Jvm.ClassFile.FieldType.boolean)) ∈ lw_all := lw_g (lw_at lw_m4 202 rfl) rfl
theorem q956 : (Jvm.Cond.instanceMethod ({ cls := "DesertChannelsModel", name := "flow", desc := "(I)I" } : Jvm.MethodName)) ∈ lw_all := lw_g (lw_at lw_m4 204 rfl) rfl
theorem q957 : (Jvm.Cond.selects "DesertChannelsModel" ({ cls := "DesertChannelsModel", name := "flow", desc := "(I)I" } : Jvm.MethodName) ({ cls := "DesertChannelsModel", name := "flow", desc := "(I)I" } : Jvm.MethodName)) ∈ lw_all := lw_g (lw_at lw_m4 205 rfl) rfl
theorem q958 : (Jvm.Cond.code ({ cls := "DesertChannelsModel", name := "flow", desc := "(I)I" } : Jvm.MethodName) prog_8_method_21_code (2 : Nat) (Option.some Jvm.ClassFile.FieldType.int)) ∈ lw_all := lw_g (lw_at lw_m4 206 rfl) rfl
theorem q959 : (Jvm.Cond.methodLink "DesertChannelsModel" (153 : Nat) ({ cls := "DesertChannelsModel", name := "flows", desc := "(II)I" } : Jvm.MethodName)) ∈ lw_all := lw_g (lw_at lw_m4 207 rfl) rfl
theorem q960 : (Jvm.Cond.privateMethod ({ cls := "DesertChannelsModel", name := "flows", desc := "(II)I" } : Jvm.MethodName)) ∈ lw_tbl := lw_at lw_m4 208 rfl
theorem q961 : (Jvm.Cond.instanceMethod ({ cls := "DesertChannelsModel", name := "flows", desc := "(II)I" } : Jvm.MethodName)) ∈ lw_all := lw_g (lw_at lw_m4 209 rfl) rfl
theorem q962 : (Jvm.Cond.code ({ cls := "DesertChannelsModel", name := "flows", desc := "(II)I" } : Jvm.MethodName) prog_8_method_20_code (6 : Nat) (Option.some Jvm.ClassFile.FieldType.int)) ∈ lw_all := lw_g (lw_at lw_m4 210 rfl) rfl
theorem q963 : (Jvm.Cond.methodLink "DesertChannelsModel" (140 : Nat) ({ cls := "DesertChannelsModel", name := "runs", desc := "(I)I" } : Jvm.MethodName)) ∈ lw_all := lw_g (lw_at lw_m4 211 rfl) rfl
theorem q964 : (Jvm.Cond.privateMethod ({ cls := "DesertChannelsModel", name := "runs", desc := "(I)I" } : Jvm.MethodName)) ∈ lw_tbl := lw_at lw_m4 212 rfl
theorem q965 : (Jvm.Cond.instanceMethod ({ cls := "DesertChannelsModel", name := "runs", desc := "(I)I" } : Jvm.MethodName)) ∈ lw_all := lw_g (lw_at lw_m4 213 rfl) rfl
theorem q966 : (Jvm.Cond.code ({ cls := "DesertChannelsModel", name := "runs", desc := "(I)I" } : Jvm.MethodName) prog_8_method_17_code (3 : Nat) (Option.some Jvm.ClassFile.FieldType.int)) ∈ lw_all := lw_g (lw_at lw_m4 214 rfl) rfl
theorem q967 : (Jvm.Cond.methodLink "DesertChannelsModel" (150 : Nat) ({ cls := "DesertChannelsModel", name := "seeps", desc := "(III)I" } : Jvm.MethodName)) ∈ lw_all := lw_g (lw_at lw_m4 215 rfl) rfl
theorem q968 : (Jvm.Cond.privateMethod ({ cls := "DesertChannelsModel", name := "seeps", desc := "(III)I" } : Jvm.MethodName)) ∈ lw_tbl := lw_at lw_m4 216 rfl
theorem q969 : (Jvm.Cond.instanceMethod ({ cls := "DesertChannelsModel", name := "seeps", desc := "(III)I" } : Jvm.MethodName)) ∈ lw_all := lw_g (lw_at lw_m4 217 rfl) rfl
theorem q970 : (Jvm.Cond.code ({ cls := "DesertChannelsModel", name := "seeps", desc := "(III)I" } : Jvm.MethodName) prog_8_method_19_code (7 : Nat) (Option.some Jvm.ClassFile.FieldType.int)) ∈ lw_all := lw_g (lw_at lw_m4 218 rfl) rfl
theorem q971 : (Jvm.Cond.methodLink "DesertChannelsModel" (143 : Nat) ({ cls := "DesertChannelsModel", name := "draw", desc := "(III)I" } : Jvm.MethodName)) ∈ lw_all := lw_g (lw_at lw_m4 219 rfl) rfl
theorem q972 : (Jvm.Cond.privateMethod ({ cls := "DesertChannelsModel", name := "draw", desc := "(III)I" } : Jvm.MethodName)) ∈ lw_tbl := lw_at lw_m4 220 rfl
theorem q973 : (Jvm.Cond.instanceMethod ({ cls := "DesertChannelsModel", name := "draw", desc := "(III)I" } : Jvm.MethodName)) ∈ lw_all := lw_g (lw_at lw_m4 221 rfl) rfl
theorem q974 : (Jvm.Cond.code ({ cls := "DesertChannelsModel", name := "draw", desc := "(III)I" } : Jvm.MethodName) prog_8_method_18_code (6 : Nat) (Option.some Jvm.ClassFile.FieldType.int)) ∈ lw_all := lw_g (lw_at lw_m4 222 rfl) rfl
theorem q975 : (Jvm.Cond.methodLink "DesertChannelsModel" (147 : Nat) ({ cls := "java/lang/Math", name := "min", desc := "(II)I" } : Jvm.MethodName)) ∈ lw_all := lw_g (lw_at lw_m4 223 rfl) rfl
theorem q977 : (Jvm.Cond.instanceMethod ({ cls := "DesertChannelsModel", name := "harm", desc := "(I)I" } : Jvm.MethodName)) ∈ lw_all := lw_g (lw_at lw_m4 225 rfl) rfl
theorem q978 : (Jvm.Cond.selects "DesertChannelsModel" ({ cls := "DesertChannelsModel", name := "harm", desc := "(I)I" } : Jvm.MethodName) ({ cls := "DesertChannelsModel", name := "harm", desc := "(I)I" } : Jvm.MethodName)) ∈ lw_all := lw_g (lw_at lw_m4 226 rfl) rfl
theorem q979 : (Jvm.Cond.code ({ cls := "DesertChannelsModel", name := "harm", desc := "(I)I" } : Jvm.MethodName) prog_8_method_22_code (2 : Nat) (Option.some Jvm.ClassFile.FieldType.int)) ∈ lw_all := lw_g (lw_at lw_m4 227 rfl) rfl
theorem q981 : (Jvm.Cond.instanceMethod ({ cls := "DesertChannelsModel", name := "seep", desc := "(II)I" } : Jvm.MethodName)) ∈ lw_all := lw_g (lw_at lw_m4 229 rfl) rfl
theorem q982 : (Jvm.Cond.selects "DesertChannelsModel" ({ cls := "DesertChannelsModel", name := "seep", desc := "(II)I" } : Jvm.MethodName) ({ cls := "DesertChannelsModel", name := "seep", desc := "(II)I" } : Jvm.MethodName)) ∈ lw_all := lw_g (lw_at lw_m4 230 rfl) rfl
theorem q983 : (Jvm.Cond.code ({ cls := "DesertChannelsModel", name := "seep", desc := "(II)I" } : Jvm.MethodName) prog_8_method_23_code (3 : Nat) (Option.some Jvm.ClassFile.FieldType.int)) ∈ lw_all := lw_g (lw_at lw_m4 231 rfl) rfl
theorem q985 : (Jvm.Cond.instanceMethod ({ cls := "DesertChannelsModel", name := "sell", desc := "(IIII)V" } : Jvm.MethodName)) ∈ lw_all := lw_g (lw_at lw_m4 233 rfl) rfl
theorem q986 : (Jvm.Cond.selects "DesertChannelsModel" ({ cls := "DesertChannelsModel", name := "sell", desc := "(IIII)V" } : Jvm.MethodName) ({ cls := "DesertChannelsModel", name := "sell", desc := "(IIII)V" } : Jvm.MethodName)) ∈ lw_all := lw_g (lw_at lw_m4 234 rfl) rfl
theorem q987 : (Jvm.Cond.code ({ cls := "DesertChannelsModel", name := "sell", desc := "(IIII)V" } : Jvm.MethodName) prog_8_method_28_code (11 : Nat) (Option.none : Option Jvm.ClassFile.FieldType)) ∈ lw_all := lw_g (lw_at lw_m4 235 rfl) rfl
theorem q988 : (Jvm.Cond.methodLink "DesertChannelsModel" (162 : Nat) ({ cls := "DesertChannelsModel", name := "noShare", desc := "(I)Z" } : Jvm.MethodName)) ∈ lw_all := lw_g (lw_at lw_m4 236 rfl) rfl
theorem q989 : (Jvm.Cond.privateMethod ({ cls := "DesertChannelsModel", name := "noShare", desc := "(I)Z" } : Jvm.MethodName)) ∈ lw_tbl := lw_at lw_m4 237 rfl
theorem q990 : (Jvm.Cond.instanceMethod ({ cls := "DesertChannelsModel", name := "noShare", desc := "(I)Z" } : Jvm.MethodName)) ∈ lw_all := lw_g (lw_at lw_m4 238 rfl) rfl
theorem q991 : (Jvm.Cond.code ({ cls := "DesertChannelsModel", name := "noShare", desc := "(I)Z" } : Jvm.MethodName) prog_8_method_7_code (2 : Nat) (Option.some Jvm.ClassFile.FieldType.boolean)) ∈ lw_all := lw_g (lw_at lw_m4 239 rfl) rfl
theorem q992 : (Jvm.Cond.methodLink "DesertChannelsModel" (165 : Nat) ({ cls := "DesertChannelsModel", name := "isLet", desc := "(I)Z" } : Jvm.MethodName)) ∈ lw_all := lw_g (lw_at lw_m5 0 rfl) rfl
theorem q993 : (Jvm.Cond.privateMethod ({ cls := "DesertChannelsModel", name := "isLet", desc := "(I)Z" } : Jvm.MethodName)) ∈ lw_tbl := lw_at lw_m5 1 rfl
theorem q994 : (Jvm.Cond.instanceMethod ({ cls := "DesertChannelsModel", name := "isLet", desc := "(I)Z" } : Jvm.MethodName)) ∈ lw_all := lw_g (lw_at lw_m5 2 rfl) rfl
theorem q995 : (Jvm.Cond.code ({ cls := "DesertChannelsModel", name := "isLet", desc := "(I)Z" } : Jvm.MethodName) prog_8_method_26_code (2 : Nat) (Option.some Jvm.ClassFile.FieldType.boolean)) ∈ lw_all := lw_g (lw_at lw_m5 3 rfl) rfl
theorem q996 : (Jvm.Cond.methodLink "DesertChannelsModel" (168 : Nat) ({ cls := "DesertChannelsModel", name := "noOwner", desc := "(I)Z" } : Jvm.MethodName)) ∈ lw_all := lw_g (lw_at lw_m5 4 rfl) rfl
theorem q997 : (Jvm.Cond.static ({ cls := "DesertChannelsModel", name := "noOwner", desc := "(I)Z" } : Jvm.MethodName)) ∈ lw_all := lw_g (lw_at lw_m5 5 rfl) rfl
theorem q998 : (Jvm.Cond.code ({ cls := "DesertChannelsModel", name := "noOwner", desc := "(I)Z" } : Jvm.MethodName) prog_8_method_27_code (1 : Nat) (Option.some Jvm.ClassFile.FieldType.boolean)) ∈ lw_all := lw_g (lw_at lw_m5 6 rfl) rfl
theorem q1000 : (Jvm.Cond.instanceMethod ({ cls := "DesertChannelsModel", name := "heirs", desc := "(IIIIIIIIII)I" } : Jvm.MethodName)) ∈ lw_all := lw_g (lw_at lw_m5 8 rfl) rfl
theorem q1001 : (Jvm.Cond.selects "DesertChannelsModel" ({ cls := "DesertChannelsModel", name := "heirs", desc := "(IIIIIIIIII)I" } : Jvm.MethodName) ({ cls := "DesertChannelsModel", name := "heirs", desc := "(IIIIIIIIII)I" } : Jvm.MethodName)) ∈ lw_all := lw_g (lw_at lw_m5 9 rfl) rfl
theorem q1002 : (Jvm.Cond.code ({ cls := "DesertChannelsModel", name := "heirs", desc := "(IIIIIIIIII)I" } : Jvm.MethodName) prog_8_method_29_code (20 : Nat) (Option.some Jvm.ClassFile.FieldType.int)) ∈ lw_all := lw_g (lw_at lw_m5 10 rfl) rfl
theorem q1004 : (Jvm.Cond.instanceMethod ({ cls := "DesertChannelsModel", name := "let", desc := "(IIII)V" } : Jvm.MethodName)) ∈ lw_all := lw_g (lw_at lw_m5 12 rfl) rfl
theorem q1005 : (Jvm.Cond.selects "DesertChannelsModel" ({ cls := "DesertChannelsModel", name := "let", desc := "(IIII)V" } : Jvm.MethodName) ({ cls := "DesertChannelsModel", name := "let", desc := "(IIII)V" } : Jvm.MethodName)) ∈ lw_all := lw_g (lw_at lw_m5 13 rfl) rfl
theorem q1006 : (Jvm.Cond.code ({ cls := "DesertChannelsModel", name := "let", desc := "(IIII)V" } : Jvm.MethodName) prog_8_method_30_code (6 : Nat) (Option.none : Option Jvm.ClassFile.FieldType)) ∈ lw_all := lw_g (lw_at lw_m5 14 rfl) rfl
theorem q1007 : (Jvm.Cond.constant "DesertChannelsModel" (171 : Nat) (100000000 : Int32)) ∈ lw_all := lw_g (lw_at lw_m5 15 rfl) rfl
theorem q1009 : (Jvm.Cond.instanceMethod ({ cls := "DesertChannelsModel", name := "minutes", desc := "(I)I" } : Jvm.MethodName)) ∈ lw_all := lw_g (lw_at lw_m5 17 rfl) rfl
theorem q1010 : (Jvm.Cond.selects "DesertChannelsModel" ({ cls := "DesertChannelsModel", name := "minutes", desc := "(I)I" } : Jvm.MethodName) ({ cls := "DesertChannelsModel", name := "minutes", desc := "(I)I" } : Jvm.MethodName)) ∈ lw_all := lw_g (lw_at lw_m5 18 rfl) rfl
theorem q1011 : (Jvm.Cond.code ({ cls := "DesertChannelsModel", name := "minutes", desc := "(I)I" } : Jvm.MethodName) prog_8_method_31_code (2 : Nat) (Option.some Jvm.ClassFile.FieldType.int)) ∈ lw_all := lw_g (lw_at lw_m5 19 rfl) rfl
theorem q1012 : (Jvm.Cond.constant "DesertChannelsModel" (172 : Nat) (100000 : Int32)) ∈ lw_all := lw_g (lw_at lw_m5 20 rfl) rfl
theorem q1014 : (Jvm.Cond.instanceMethod ({ cls := "DesertChannelsModel", name := "holder", desc := "(II)I" } : Jvm.MethodName)) ∈ lw_all := lw_g (lw_at lw_m5 22 rfl) rfl
theorem q1015 : (Jvm.Cond.selects "DesertChannelsModel" ({ cls := "DesertChannelsModel", name := "holder", desc := "(II)I" } : Jvm.MethodName) ({ cls := "DesertChannelsModel", name := "holder", desc := "(II)I" } : Jvm.MethodName)) ∈ lw_all := lw_g (lw_at lw_m5 23 rfl) rfl
theorem q1016 : (Jvm.Cond.code ({ cls := "DesertChannelsModel", name := "holder", desc := "(II)I" } : Jvm.MethodName) prog_8_method_32_code (6 : Nat) (Option.some Jvm.ClassFile.FieldType.int)) ∈ lw_all := lw_g (lw_at lw_m5 24 rfl) rfl
theorem q1018 : (Jvm.Cond.instanceMethod ({ cls := "DesertChannelsModel", name := "share", desc := "(II)I" } : Jvm.MethodName)) ∈ lw_all := lw_g (lw_at lw_m5 26 rfl) rfl
theorem q1019 : (Jvm.Cond.selects "DesertChannelsModel" ({ cls := "DesertChannelsModel", name := "share", desc := "(II)I" } : Jvm.MethodName) ({ cls := "DesertChannelsModel", name := "share", desc := "(II)I" } : Jvm.MethodName)) ∈ lw_all := lw_g (lw_at lw_m5 27 rfl) rfl
theorem q1020 : (Jvm.Cond.code ({ cls := "DesertChannelsModel", name := "share", desc := "(II)I" } : Jvm.MethodName) prog_8_method_33_code (3 : Nat) (Option.some Jvm.ClassFile.FieldType.int)) ∈ lw_all := lw_g (lw_at lw_m5 28 rfl) rfl
theorem q1022 : (Jvm.Cond.instanceMethod ({ cls := "DesertChannelsModel", name := "feed", desc := "(IIIII)I" } : Jvm.MethodName)) ∈ lw_all := lw_g (lw_at lw_m5 30 rfl) rfl
theorem q1023 : (Jvm.Cond.selects "DesertChannelsModel" ({ cls := "DesertChannelsModel", name := "feed", desc := "(IIIII)I" } : Jvm.MethodName) ({ cls := "DesertChannelsModel", name := "feed", desc := "(IIIII)I" } : Jvm.MethodName)) ∈ lw_all := lw_g (lw_at lw_m5 31 rfl) rfl
theorem q1024 : (Jvm.Cond.code ({ cls := "DesertChannelsModel", name := "feed", desc := "(IIIII)I" } : Jvm.MethodName) prog_8_method_34_code (7 : Nat) (Option.some Jvm.ClassFile.FieldType.int)) ∈ lw_all := lw_g (lw_at lw_m5 32 rfl) rfl
theorem q1026 : (Jvm.Cond.instanceMethod ({ cls := "DesertChannelsModel", name := "end", desc := "(I)Z" } : Jvm.MethodName)) ∈ lw_all := lw_g (lw_at lw_m5 34 rfl) rfl
theorem q1027 : (Jvm.Cond.selects "DesertChannelsModel" ({ cls := "DesertChannelsModel", name := "end", desc := "(I)Z" } : Jvm.MethodName) ({ cls := "DesertChannelsModel", name := "end", desc := "(I)Z" } : Jvm.MethodName)) ∈ lw_all := lw_g (lw_at lw_m5 35 rfl) rfl
theorem q1028 : (Jvm.Cond.code ({ cls := "DesertChannelsModel", name := "end", desc := "(I)Z" } : Jvm.MethodName) prog_8_method_35_code (2 : Nat) (Option.some Jvm.ClassFile.FieldType.boolean)) ∈ lw_all := lw_g (lw_at lw_m5 36 rfl) rfl
theorem q1030 : (Jvm.Cond.instanceMethod ({ cls := "DesertChannelsModel", name := "law", desc := "()I" } : Jvm.MethodName)) ∈ lw_all := lw_g (lw_at lw_m5 38 rfl) rfl
theorem q1031 : (Jvm.Cond.selects "DesertChannelsModel" ({ cls := "DesertChannelsModel", name := "law", desc := "()I" } : Jvm.MethodName) ({ cls := "DesertChannelsModel", name := "law", desc := "()I" } : Jvm.MethodName)) ∈ lw_all := lw_g (lw_at lw_m5 39 rfl) rfl
theorem q1032 : (Jvm.Cond.code ({ cls := "DesertChannelsModel", name := "law", desc := "()I" } : Jvm.MethodName) prog_8_method_42_code (4 : Nat) (Option.some Jvm.ClassFile.FieldType.int)) ∈ lw_all := lw_g (lw_at lw_m5 40 rfl) rfl
theorem q1033 : (Jvm.Cond.methodLink "DesertChannelsModel" (222 : Nat) ({ cls := "DesertChannelsModel", name := "readTerm", desc := "()Z" } : Jvm.MethodName)) ∈ lw_all := lw_g (lw_at lw_m5 41 rfl) rfl
theorem q1034 : (Jvm.Cond.privateMethod ({ cls := "DesertChannelsModel", name := "readTerm", desc := "()Z" } : Jvm.MethodName)) ∈ lw_tbl := lw_at lw_m5 42 rfl
theorem q1035 : (Jvm.Cond.instanceMethod ({ cls := "DesertChannelsModel", name := "readTerm", desc := "()Z" } : Jvm.MethodName)) ∈ lw_all := lw_g (lw_at lw_m5 43 rfl) rfl
theorem q1036 : (Jvm.Cond.code ({ cls := "DesertChannelsModel", name := "readTerm", desc := "()Z" } : Jvm.MethodName) prog_8_method_41_code (1 : Nat) (Option.some Jvm.ClassFile.FieldType.boolean)) ∈ lw_all := lw_g (lw_at lw_m5 44 rfl) rfl
theorem q1037 : (Jvm.Cond.methodLink "DesertChannelsModel" (200 : Nat) ({ cls := "DesertChannelsModel", name := "word", desc := "()V" } : Jvm.MethodName)) ∈ lw_all := lw_g (lw_at lw_m5 45 rfl) rfl
theorem q1038 : (Jvm.Cond.privateMethod ({ cls := "DesertChannelsModel", name := "word", desc := "()V" } : Jvm.MethodName)) ∈ lw_tbl := lw_at lw_m5 46 rfl
theorem q1039 : (Jvm.Cond.instanceMethod ({ cls := "DesertChannelsModel", name := "word", desc := "()V" } : Jvm.MethodName)) ∈ lw_all := lw_g (lw_at lw_m5 47 rfl) rfl
theorem q1040 : (Jvm.Cond.code ({ cls := "DesertChannelsModel", name := "word", desc := "()V" } : Jvm.MethodName) prog_8_method_39_code (1 : Nat) (Option.none : Option Jvm.ClassFile.FieldType)) ∈ lw_all := lw_g (lw_at lw_m5 48 rfl) rfl
theorem q1041 : (Jvm.Cond.methodLink "DesertChannelsModel" (197 : Nat) ({ cls := "DesertChannelsModel", name := "blanks", desc := "()V" } : Jvm.MethodName)) ∈ lw_all := lw_g (lw_at lw_m5 49 rfl) rfl
theorem q1042 : (Jvm.Cond.privateMethod ({ cls := "DesertChannelsModel", name := "blanks", desc := "()V" } : Jvm.MethodName)) ∈ lw_tbl := lw_at lw_m5 50 rfl
theorem q1043 : (Jvm.Cond.instanceMethod ({ cls := "DesertChannelsModel", name := "blanks", desc := "()V" } : Jvm.MethodName)) ∈ lw_all := lw_g (lw_at lw_m5 51 rfl) rfl
theorem q1044 : (Jvm.Cond.code ({ cls := "DesertChannelsModel", name := "blanks", desc := "()V" } : Jvm.MethodName) prog_8_method_37_code (1 : Nat) (Option.none : Option Jvm.ClassFile.FieldType)) ∈ lw_all := lw_g (lw_at lw_m5 52 rfl) rfl
theorem q1045 : (Jvm.Cond.methodLink "DesertChannelsModel" (182 : Nat) ({ cls := "DesertChannelsModel", name := "isAt", desc := "(II)Z" } : Jvm.MethodName)) ∈ lw_all := lw_g (lw_at lw_m5 53 rfl) rfl
theorem q1046 : (Jvm.Cond.privateMethod ({ cls := "DesertChannelsModel", name := "isAt", desc := "(II)Z" } : Jvm.MethodName)) ∈ lw_tbl := lw_at lw_m5 54 rfl
theorem q1047 : (Jvm.Cond.instanceMethod ({ cls := "DesertChannelsModel", name := "isAt", desc := "(II)Z" } : Jvm.MethodName)) ∈ lw_all := lw_g (lw_at lw_m5 55 rfl) rfl
theorem q1048 : (Jvm.Cond.code ({ cls := "DesertChannelsModel", name := "isAt", desc := "(II)Z" } : Jvm.MethodName) prog_8_method_36_code (3 : Nat) (Option.some Jvm.ClassFile.FieldType.boolean)) ∈ lw_all := lw_g (lw_at lw_m5 56 rfl) rfl
theorem q1049 : (Jvm.Cond.stringRef "DesertChannelsModel" (203 : Nat) "distance") ∈ lw_tbl := lw_at lw_m5 57 rfl
theorem q1050 : (Jvm.Cond.methodLink "DesertChannelsModel" (205 : Nat) ({ cls := "DesertChannelsModel", name := "isWord", desc := "(Ljava/lang/String;)Z" } : Jvm.MethodName)) ∈ lw_all := lw_g (lw_at lw_m5 58 rfl) rfl
theorem q1051 : (Jvm.Cond.privateMethod ({ cls := "DesertChannelsModel", name := "isWord", desc := "(Ljava/lang/String;)Z" } : Jvm.MethodName)) ∈ lw_tbl := lw_at lw_m5 59 rfl
theorem q1052 : (Jvm.Cond.instanceMethod ({ cls := "DesertChannelsModel", name := "isWord", desc := "(Ljava/lang/String;)Z" } : Jvm.MethodName)) ∈ lw_all := lw_g (lw_at lw_m5 60 rfl) rfl
theorem q1053 : (Jvm.Cond.code ({ cls := "DesertChannelsModel", name := "isWord", desc := "(Ljava/lang/String;)Z" } : Jvm.MethodName) prog_8_method_38_code (4 : Nat) (Option.some Jvm.ClassFile.FieldType.boolean)) ∈ lw_all := lw_g (lw_at lw_m5 61 rfl) rfl
theorem q1054 : (Jvm.Cond.methodLink "DesertChannelsModel" (188 : Nat) ({ cls := "java/lang/String", name := "length", desc := "()I" } : Jvm.MethodName)) ∈ lw_all := lw_g (lw_at lw_m5 62 rfl) rfl
theorem q1055 : (Jvm.Cond.methodLink "DesertChannelsModel" (193 : Nat) ({ cls := "java/lang/String", name := "charAt", desc := "(I)C" } : Jvm.MethodName)) ∈ lw_all := lw_g (lw_at lw_m5 63 rfl) rfl
theorem q1056 : (Jvm.Cond.methodLink "DesertChannelsModel" (209 : Nat) ({ cls := "DesertChannelsModel", name := "number", desc := "(II)Z" } : Jvm.MethodName)) ∈ lw_all := lw_g (lw_at lw_m5 64 rfl) rfl
theorem q1057 : (Jvm.Cond.privateMethod ({ cls := "DesertChannelsModel", name := "number", desc := "(II)Z" } : Jvm.MethodName)) ∈ lw_tbl := lw_at lw_m5 65 rfl
theorem q1058 : (Jvm.Cond.instanceMethod ({ cls := "DesertChannelsModel", name := "number", desc := "(II)Z" } : Jvm.MethodName)) ∈ lw_all := lw_g (lw_at lw_m5 66 rfl) rfl
theorem q1059 : (Jvm.Cond.code ({ cls := "DesertChannelsModel", name := "number", desc := "(II)Z" } : Jvm.MethodName) prog_8_method_40_code (4 : Nat) (Option.some Jvm.ClassFile.FieldType.boolean)) ∈ lw_all := lw_g (lw_at lw_m5 67 rfl) rfl
theorem q1060 : (Jvm.Cond.stringRef "DesertChannelsModel" (212 : Nat) "depth") ∈ lw_tbl := lw_at lw_m5 68 rfl
theorem q1061 : (Jvm.Cond.stringRef "DesertChannelsModel" (214 : Nat) "free") ∈ lw_tbl := lw_at lw_m5 69 rfl
theorem q1062 : (Jvm.Cond.stringRef "DesertChannelsModel" (216 : Nat) "repair") ∈ lw_tbl := lw_at lw_m5 70 rfl
theorem q1063 : (Jvm.Cond.stringRef "DesertChannelsModel" (218 : Nat) "heads") ∈ lw_tbl := lw_at lw_m5 71 rfl
theorem q1064 : (Jvm.Cond.stringRef "DesertChannelsModel" (220 : Nat) "hours") ∈ lw_tbl := lw_at lw_m5 72 rfl
theorem q1066 : (Jvm.Cond.instanceMethod ({ cls := "DesertChannelsModel", name := "fault", desc := "()I" } : Jvm.MethodName)) ∈ lw_all := lw_g (lw_at lw_m5 74 rfl) rfl
theorem q1067 : (Jvm.Cond.selects "DesertChannelsModel" ({ cls := "DesertChannelsModel", name := "fault", desc := "()I" } : Jvm.MethodName) ({ cls := "DesertChannelsModel", name := "fault", desc := "()I" } : Jvm.MethodName)) ∈ lw_all := lw_g (lw_at lw_m5 75 rfl) rfl
theorem q1068 : (Jvm.Cond.code ({ cls := "DesertChannelsModel", name := "fault", desc := "()I" } : Jvm.MethodName) prog_8_method_43_code (1 : Nat) (Option.some Jvm.ClassFile.FieldType.int)) ∈ lw_all := lw_g (lw_at lw_m5 76 rfl) rfl
theorem q1070 : (Jvm.Cond.instanceMethod ({ cls := "DesertChannelsModel", name := "says", desc := "(I)I" } : Jvm.MethodName)) ∈ lw_all := lw_g (lw_at lw_m5 78 rfl) rfl
theorem q1071 : (Jvm.Cond.selects "DesertChannelsModel" ({ cls := "DesertChannelsModel", name := "says", desc := "(I)I" } : Jvm.MethodName) ({ cls := "DesertChannelsModel", name := "says", desc := "(I)I" } : Jvm.MethodName)) ∈ lw_all := lw_g (lw_at lw_m5 79 rfl) rfl
theorem q1072 : (Jvm.Cond.code ({ cls := "DesertChannelsModel", name := "says", desc := "(I)I" } : Jvm.MethodName) prog_8_method_44_code (2 : Nat) (Option.some Jvm.ClassFile.FieldType.int)) ∈ lw_all := lw_g (lw_at lw_m5 80 rfl) rfl
theorem q1074 : (Jvm.Cond.instanceMethod ({ cls := "DesertChannelsModel", name := "pays", desc := "(III)I" } : Jvm.MethodName)) ∈ lw_all := lw_g (lw_at lw_m5 82 rfl) rfl
theorem q1075 : (Jvm.Cond.selects "DesertChannelsModel" ({ cls := "DesertChannelsModel", name := "pays", desc := "(III)I" } : Jvm.MethodName) ({ cls := "DesertChannelsModel", name := "pays", desc := "(III)I" } : Jvm.MethodName)) ∈ lw_all := lw_g (lw_at lw_m5 83 rfl) rfl
theorem q1076 : (Jvm.Cond.code ({ cls := "DesertChannelsModel", name := "pays", desc := "(III)I" } : Jvm.MethodName) prog_8_method_45_code (11 : Nat) (Option.some Jvm.ClassFile.FieldType.int)) ∈ lw_all := lw_g (lw_at lw_m5 84 rfl) rfl
theorem q1077 : (Jvm.Cond.constant "DesertChannelsModel" (226 : Nat) (1000000 : Int32)) ∈ lw_all := lw_g (lw_at lw_m5 85 rfl) rfl
theorem q1078 : (Jvm.Cond.constantLong "DesertChannelsModel" (227 : Nat) (100 : Int64)) ∈ lw_all := lw_g (lw_at lw_m5 86 rfl) rfl
theorem q1079 : (Jvm.Cond.methodLink "DesertChannelsModel" (229 : Nat) ({ cls := "DesertChannelsModel", name := "portion", desc := "(JIII)J" } : Jvm.MethodName)) ∈ lw_all := lw_g (lw_at lw_m5 87 rfl) rfl
theorem q1080 : (Jvm.Cond.privateMethod ({ cls := "DesertChannelsModel", name := "portion", desc := "(JIII)J" } : Jvm.MethodName)) ∈ lw_tbl := lw_at lw_m5 88 rfl
theorem q1081 : (Jvm.Cond.instanceMethod ({ cls := "DesertChannelsModel", name := "portion", desc := "(JIII)J" } : Jvm.MethodName)) ∈ lw_all := lw_g (lw_at lw_m5 89 rfl) rfl
theorem q1082 : (Jvm.Cond.code ({ cls := "DesertChannelsModel", name := "portion", desc := "(JIII)J" } : Jvm.MethodName) prog_8_method_46_code (6 : Nat) (Option.some Jvm.ClassFile.FieldType.long)) ∈ lw_all := lw_g (lw_at lw_m5 90 rfl) rfl
theorem q1084 : (Jvm.Cond.instanceMethod ({ cls := "DesertChannelsModel", name := "field", desc := "(III)I" } : Jvm.MethodName)) ∈ lw_all := lw_g (lw_at lw_m5 92 rfl) rfl
theorem q1085 : (Jvm.Cond.selects "DesertChannelsModel" ({ cls := "DesertChannelsModel", name := "field", desc := "(III)I" } : Jvm.MethodName) ({ cls := "DesertChannelsModel", name := "field", desc := "(III)I" } : Jvm.MethodName)) ∈ lw_all := lw_g (lw_at lw_m5 93 rfl) rfl
theorem q1086 : (Jvm.Cond.code ({ cls := "DesertChannelsModel", name := "field", desc := "(III)I" } : Jvm.MethodName) prog_8_method_47_code (4 : Nat) (Option.some Jvm.ClassFile.FieldType.int)) ∈ lw_all := lw_g (lw_at lw_m5 94 rfl) rfl
theorem q1088 : (Jvm.Cond.instanceMethod ({ cls := "DesertChannelsModel", name := "least", desc := "()I" } : Jvm.MethodName)) ∈ lw_all := lw_g (lw_at lw_m5 96 rfl) rfl
theorem q1089 : (Jvm.Cond.selects "DesertChannelsModel" ({ cls := "DesertChannelsModel", name := "least", desc := "()I" } : Jvm.MethodName) ({ cls := "DesertChannelsModel", name := "least", desc := "()I" } : Jvm.MethodName)) ∈ lw_all := lw_g (lw_at lw_m5 97 rfl) rfl
theorem q1090 : (Jvm.Cond.code ({ cls := "DesertChannelsModel", name := "least", desc := "()I" } : Jvm.MethodName) prog_8_method_48_code (5 : Nat) (Option.some Jvm.ClassFile.FieldType.int)) ∈ lw_all := lw_g (lw_at lw_m5 98 rfl) rfl
theorem q1091 : (Jvm.Cond.constant "DesertChannelsModel" (238 : Nat) (2147483647 : Int32)) ∈ lw_all := lw_g (lw_at lw_m5 99 rfl) rfl
theorem q1093 : (Jvm.Cond.instanceMethod ({ cls := "DesertChannelsModel", name := "count", desc := "(I)I" } : Jvm.MethodName)) ∈ lw_all := lw_g (lw_at lw_m5 101 rfl) rfl
theorem q1094 : (Jvm.Cond.selects "DesertChannelsModel" ({ cls := "DesertChannelsModel", name := "count", desc := "(I)I" } : Jvm.MethodName) ({ cls := "DesertChannelsModel", name := "count", desc := "(I)I" } : Jvm.MethodName)) ∈ lw_all := lw_g (lw_at lw_m5 102 rfl) rfl
theorem q1095 : (Jvm.Cond.code ({ cls := "DesertChannelsModel", name := "count", desc := "(I)I" } : Jvm.MethodName) prog_8_method_49_code (4 : Nat) (Option.some Jvm.ClassFile.FieldType.int)) ∈ lw_all := lw_g (lw_at lw_m5 103 rfl) rfl
theorem q1101 : (Jvm.Cond.castable "DesertChannelsModel" "java/lang/Object") ∈ lw_tbl := lw_at lw_m5 109 rfl
theorem in_X4 : ∀ w ∈ wsX40, w ∈ lw_all := lw_in wsX40 [817, 819, 821, 823, 825, 827, 829, 831, 833, 835, 837, 839, 841, 843, 845, 847, 849, 851, 853, 855, 857, 859, 861, 863, 865, 867, 869, 871, 873, 875, 877, 879, 881, 883, 885, 887] (by decide +kernel) (by decide +kernel)
theorem q42 : (Jvm.Cond.initialized "DesertChannels$Channel") ∈ lw_all := lw_g (lw_at lw_m1 10 rfl) rfl
theorem q281 : (Jvm.Cond.instanceMethod ({ cls := "DesertChannels$Channel", name := "isDug", desc := "()Z" } : Jvm.MethodName)) ∈ lw_all := lw_g (lw_at lw_m2 9 rfl) rfl
theorem q282 : (Jvm.Cond.selects "DesertChannels$Channel" ({ cls := "DesertChannels$Channel", name := "isDug", desc := "()Z" } : Jvm.MethodName) ({ cls := "DesertChannels$Channel", name := "isDug", desc := "()Z" } : Jvm.MethodName)) ∈ lw_all := lw_g (lw_at lw_m2 10 rfl) rfl
theorem q283 : (Jvm.Cond.code ({ cls := "DesertChannels$Channel", name := "isDug", desc := "()Z" } : Jvm.MethodName) prog_2_method_2_code (1 : Nat) (Option.some Jvm.ClassFile.FieldType.boolean)) ∈ lw_all := lw_g (lw_at lw_m2 11 rfl) rfl
theorem q289 : (Jvm.Cond.instanceMethod ({ cls := "DesertChannels$Channel", name := "runs", desc := "()I" } : Jvm.MethodName)) ∈ lw_all := lw_g (lw_at lw_m2 17 rfl) rfl
theorem q290 : (Jvm.Cond.selects "DesertChannels$Channel" ({ cls := "DesertChannels$Channel", name := "runs", desc := "()I" } : Jvm.MethodName) ({ cls := "DesertChannels$Channel", name := "runs", desc := "()I" } : Jvm.MethodName)) ∈ lw_all := lw_g (lw_at lw_m2 18 rfl) rfl
theorem q291 : (Jvm.Cond.code ({ cls := "DesertChannels$Channel", name := "runs", desc := "()I" } : Jvm.MethodName) prog_2_method_3_code (2 : Nat) (Option.some Jvm.ClassFile.FieldType.int)) ∈ lw_all := lw_g (lw_at lw_m2 19 rfl) rfl
theorem q297 : (Jvm.Cond.instanceMethod ({ cls := "DesertChannels$Channel", name := "draw", desc := "(LDesertChannels$Well;I)I" } : Jvm.MethodName)) ∈ lw_all := lw_g (lw_at lw_m2 25 rfl) rfl
theorem q298 : (Jvm.Cond.selects "DesertChannels$Channel" ({ cls := "DesertChannels$Channel", name := "draw", desc := "(LDesertChannels$Well;I)I" } : Jvm.MethodName) ({ cls := "DesertChannels$Channel", name := "draw", desc := "(LDesertChannels$Well;I)I" } : Jvm.MethodName)) ∈ lw_all := lw_g (lw_at lw_m2 26 rfl) rfl
theorem q299 : (Jvm.Cond.code ({ cls := "DesertChannels$Channel", name := "draw", desc := "(LDesertChannels$Well;I)I" } : Jvm.MethodName) prog_2_method_4_code (6 : Nat) (Option.some Jvm.ClassFile.FieldType.int)) ∈ lw_all := lw_g (lw_at lw_m2 27 rfl) rfl
theorem q300 : (Jvm.Cond.methodLink "DesertChannels$Channel" (28 : Nat) ({ cls := "DesertChannels$Channel", name := "runs", desc := "()I" } : Jvm.MethodName)) ∈ lw_all := lw_g (lw_at lw_m2 28 rfl) rfl
theorem q301 : (Jvm.Cond.methodLink "DesertChannels$Channel" (32 : Nat) ({ cls := "DesertChannels$Well", name := "steps", desc := "(LDesertChannels$Well;)I" } : Jvm.MethodName)) ∈ lw_all := lw_g (lw_at lw_m2 29 rfl) rfl
theorem q309 : (Jvm.Cond.methodLink "DesertChannels$Channel" (36 : Nat) ({ cls := "java/lang/Math", name := "max", desc := "(II)I" } : Jvm.MethodName)) ∈ lw_all := lw_g (lw_at lw_m2 37 rfl) rfl
theorem q368 : (Jvm.Cond.instantiable "DesertChannels$Channel" (5 : Nat)) ∈ lw_all := lw_g (lw_at lw_m2 96 rfl) rfl
theorem q370 : (Jvm.Cond.instanceMethod ({ cls := "DesertChannels$Channel", name := "<init>", desc := "()V" } : Jvm.MethodName)) ∈ lw_all := lw_g (lw_at lw_m2 98 rfl) rfl
theorem q371 : (Jvm.Cond.code ({ cls := "DesertChannels$Channel", name := "<init>", desc := "()V" } : Jvm.MethodName) prog_2_method_1_code (1 : Nat) (Option.none : Option Jvm.ClassFile.FieldType)) ∈ lw_all := lw_g (lw_at lw_m2 99 rfl) rfl
theorem q372 : (Jvm.Cond.methodLink "DesertChannels$Channel" (3 : Nat) ({ cls := "java/lang/Object", name := "<init>", desc := "()V" } : Jvm.MethodName)) ∈ lw_all := lw_g (lw_at lw_m2 100 rfl) rfl
theorem q373 : (Jvm.Cond.classLink "DesertChannels$Channel" (9 : Nat) "DesertChannels$Well") ∈ lw_all := lw_g (lw_at lw_m2 101 rfl) rfl
theorem q375 : (Jvm.Cond.fieldLink "DesertChannels$Channel" (11 : Nat) "DesertChannels$Channel" "wells" "[LDesertChannels$Well;") ∈ lw_all := lw_g (lw_at lw_m2 103 rfl) rfl
theorem q377 : (Jvm.Cond.fieldLink "DesertChannels$Channel" (21 : Nat) "DesertChannels$Channel" "many" "I") ∈ lw_all := lw_g (lw_at lw_m2 105 rfl) rfl
theorem q379 : (Jvm.Cond.fieldLink "DesertChannels$Channel" (42 : Nat) "DesertChannels$Channel" "year" "I") ∈ lw_all := lw_g (lw_at lw_m2 107 rfl) rfl
theorem q381 : (Jvm.Cond.fieldLink "DesertChannels$Channel" (17 : Nat) "DesertChannels$Channel" "order" "I") ∈ lw_all := lw_g (lw_at lw_m2 109 rfl) rfl
theorem q384 : (Jvm.Cond.laysFinal "DesertChannels$Channel" "DesertChannels$Channel" "wells" "[LDesertChannels$Well;") ∈ lw_all := lw_g (lw_at lw_m2 112 rfl) rfl
theorem q385 : (Jvm.Cond.soleField "DesertChannels$Channel" "wells") ∈ lw_all := lw_g (lw_at lw_m2 113 rfl) rfl
theorem q386 : (Jvm.Cond.lays "DesertChannels$Channel" "DesertChannels$Channel" "many" "I") ∈ lw_all := lw_g (lw_at lw_m2 114 rfl) rfl
theorem q387 : (Jvm.Cond.soleField "DesertChannels$Channel" "many") ∈ lw_all := lw_g (lw_at lw_m2 115 rfl) rfl
theorem q388 : (Jvm.Cond.lays "DesertChannels$Channel" "DesertChannels$Channel" "year" "I") ∈ lw_all := lw_g (lw_at lw_m2 116 rfl) rfl
theorem q389 : (Jvm.Cond.soleField "DesertChannels$Channel" "year") ∈ lw_all := lw_g (lw_at lw_m2 117 rfl) rfl
theorem q390 : (Jvm.Cond.lays "DesertChannels$Channel" "DesertChannels$Channel" "order" "I") ∈ lw_all := lw_g (lw_at lw_m2 118 rfl) rfl
theorem q391 : (Jvm.Cond.soleField "DesertChannels$Channel" "order") ∈ lw_all := lw_g (lw_at lw_m2 119 rfl) rfl
theorem q392 : (Jvm.Cond.lays "DesertChannels$Channel" "DesertChannels$Channel" "turn" "I") ∈ lw_all := lw_g (lw_at lw_m2 120 rfl) rfl
theorem q393 : (Jvm.Cond.soleField "DesertChannels$Channel" "turn") ∈ lw_all := lw_g (lw_at lw_m2 121 rfl) rfl
theorem q394 : (Jvm.Cond.superclass "DesertChannels$Channel" "java/lang/Object") ∈ lw_all := lw_g (lw_at lw_m2 122 rfl) rfl
theorem q486 : (Jvm.Cond.fieldLinkNest "DesertChannels$Channel" (24 : Nat) "DesertChannels$Well" "collapsed" "Z" "DesertChannels") ∈ lw_tbl := lw_at lw_m2 214 rfl
theorem q1104 : (Jvm.Cond.castable "DesertChannels$Channel" "java/lang/Object") ∈ lw_tbl := lw_at lw_m5 112 rfl
theorem in_X5 : ∀ w ∈ wsX50, w ∈ lw_all := lw_in wsX50 [384, 386, 388, 390, 392] (by decide +kernel) (by decide +kernel)
theorem q47 : (Jvm.Cond.initialized "DesertChannels$Well") ∈ lw_all := lw_g (lw_at lw_m1 15 rfl) rfl
theorem q302 : (Jvm.Cond.instanceMethod ({ cls := "DesertChannels$Well", name := "steps", desc := "(LDesertChannels$Well;)I" } : Jvm.MethodName)) ∈ lw_all := lw_g (lw_at lw_m2 30 rfl) rfl
theorem q303 : (Jvm.Cond.selects "DesertChannels$Well" ({ cls := "DesertChannels$Well", name := "steps", desc := "(LDesertChannels$Well;)I" } : Jvm.MethodName) ({ cls := "DesertChannels$Well", name := "steps", desc := "(LDesertChannels$Well;)I" } : Jvm.MethodName)) ∈ lw_all := lw_g (lw_at lw_m2 31 rfl) rfl
theorem q304 : (Jvm.Cond.code ({ cls := "DesertChannels$Well", name := "steps", desc := "(LDesertChannels$Well;)I" } : Jvm.MethodName) prog_5_method_2_code (2 : Nat) (Option.some Jvm.ClassFile.FieldType.int)) ∈ lw_all := lw_g (lw_at lw_m2 32 rfl) rfl
theorem q305 : (Jvm.Cond.methodLink "DesertChannels$Well" (19 : Nat) ({ cls := "java/lang/Math", name := "abs", desc := "(I)I" } : Jvm.MethodName)) ∈ lw_all := lw_g (lw_at lw_m2 33 rfl) rfl
theorem q308 : (Jvm.Cond.methodLink "DesertChannels$Well" (25 : Nat) ({ cls := "java/lang/Math", name := "max", desc := "(II)I" } : Jvm.MethodName)) ∈ lw_all := lw_g (lw_at lw_m2 36 rfl) rfl
theorem q476 : (Jvm.Cond.instantiable "DesertChannels$Well" (4 : Nat)) ∈ lw_all := lw_g (lw_at lw_m2 204 rfl) rfl
theorem q478 : (Jvm.Cond.instanceMethod ({ cls := "DesertChannels$Well", name := "<init>", desc := "(III)V" } : Jvm.MethodName)) ∈ lw_all := lw_g (lw_at lw_m2 206 rfl) rfl
theorem q479 : (Jvm.Cond.code ({ cls := "DesertChannels$Well", name := "<init>", desc := "(III)V" } : Jvm.MethodName) prog_5_method_1_code (4 : Nat) (Option.none : Option Jvm.ClassFile.FieldType)) ∈ lw_all := lw_g (lw_at lw_m2 207 rfl) rfl
theorem q480 : (Jvm.Cond.methodLink "DesertChannels$Well" (1 : Nat) ({ cls := "java/lang/Object", name := "<init>", desc := "()V" } : Jvm.MethodName)) ∈ lw_all := lw_g (lw_at lw_m2 208 rfl) rfl
theorem q481 : (Jvm.Cond.fieldLink "DesertChannels$Well" (7 : Nat) "DesertChannels$Well" "x" "I") ∈ lw_all := lw_g (lw_at lw_m2 209 rfl) rfl
theorem q483 : (Jvm.Cond.fieldLink "DesertChannels$Well" (13 : Nat) "DesertChannels$Well" "y" "I") ∈ lw_all := lw_g (lw_at lw_m2 211 rfl) rfl
theorem q484 : (Jvm.Cond.fieldLink "DesertChannels$Well" (16 : Nat) "DesertChannels$Well" "floor" "I") ∈ lw_all := lw_g (lw_at lw_m2 212 rfl) rfl
theorem q488 : (Jvm.Cond.laysFinal "DesertChannels$Well" "DesertChannels$Well" "x" "I") ∈ lw_all := lw_g (lw_at lw_m2 216 rfl) rfl
theorem q489 : (Jvm.Cond.soleField "DesertChannels$Well" "x") ∈ lw_all := lw_g (lw_at lw_m2 217 rfl) rfl
theorem q490 : (Jvm.Cond.laysFinal "DesertChannels$Well" "DesertChannels$Well" "y" "I") ∈ lw_all := lw_g (lw_at lw_m2 218 rfl) rfl
theorem q491 : (Jvm.Cond.soleField "DesertChannels$Well" "y") ∈ lw_all := lw_g (lw_at lw_m2 219 rfl) rfl
theorem q492 : (Jvm.Cond.laysFinal "DesertChannels$Well" "DesertChannels$Well" "floor" "I") ∈ lw_all := lw_g (lw_at lw_m2 220 rfl) rfl
theorem q493 : (Jvm.Cond.soleField "DesertChannels$Well" "floor") ∈ lw_all := lw_g (lw_at lw_m2 221 rfl) rfl
theorem q494 : (Jvm.Cond.lays "DesertChannels$Well" "DesertChannels$Well" "collapsed" "Z") ∈ lw_all := lw_g (lw_at lw_m2 222 rfl) rfl
theorem q495 : (Jvm.Cond.soleField "DesertChannels$Well" "collapsed") ∈ lw_all := lw_g (lw_at lw_m2 223 rfl) rfl
theorem q496 : (Jvm.Cond.superclass "DesertChannels$Well" "java/lang/Object") ∈ lw_all := lw_g (lw_at lw_m2 224 rfl) rfl
theorem q1108 : (Jvm.Cond.castable "DesertChannels$Well" "java/lang/Object") ∈ lw_tbl := lw_at lw_m5 116 rfl
theorem in_X6 : ∀ w ∈ wsX60, w ∈ lw_all := lw_in wsX60 [488, 490, 492, 494] (by decide +kernel) (by decide +kernel)
theorem q49 : (Jvm.Cond.initialized "DesertChannels$Share") ∈ lw_all := lw_g (lw_at lw_m1 17 rfl) rfl
theorem q277 : (Jvm.Cond.instanceMethod ({ cls := "DesertChannels$Share", name := "isLet", desc := "(I)Z" } : Jvm.MethodName)) ∈ lw_all := lw_g (lw_at lw_m2 5 rfl) rfl
theorem q278 : (Jvm.Cond.selects "DesertChannels$Share" ({ cls := "DesertChannels$Share", name := "isLet", desc := "(I)Z" } : Jvm.MethodName) ({ cls := "DesertChannels$Share", name := "isLet", desc := "(I)Z" } : Jvm.MethodName)) ∈ lw_all := lw_g (lw_at lw_m2 6 rfl) rfl
theorem q279 : (Jvm.Cond.code ({ cls := "DesertChannels$Share", name := "isLet", desc := "(I)Z" } : Jvm.MethodName) prog_4_method_2_code (2 : Nat) (Option.some Jvm.ClassFile.FieldType.boolean)) ∈ lw_all := lw_g (lw_at lw_m2 7 rfl) rfl
theorem q523 : (Jvm.Cond.instantiable "DesertChannels$Share" (8 : Nat)) ∈ lw_all := lw_g (lw_at lw_m3 11 rfl) rfl
theorem q525 : (Jvm.Cond.instanceMethod ({ cls := "DesertChannels$Share", name := "<init>", desc := "(LDesertChannels$Channel;IIII)V" } : Jvm.MethodName)) ∈ lw_all := lw_g (lw_at lw_m3 13 rfl) rfl
theorem q526 : (Jvm.Cond.code ({ cls := "DesertChannels$Share", name := "<init>", desc := "(LDesertChannels$Channel;IIII)V" } : Jvm.MethodName) prog_4_method_1_code (6 : Nat) (Option.none : Option Jvm.ClassFile.FieldType)) ∈ lw_all := lw_g (lw_at lw_m3 14 rfl) rfl
theorem q527 : (Jvm.Cond.methodLink "DesertChannels$Share" (3 : Nat) ({ cls := "java/lang/Object", name := "<init>", desc := "()V" } : Jvm.MethodName)) ∈ lw_all := lw_g (lw_at lw_m3 15 rfl) rfl
theorem q528 : (Jvm.Cond.fieldLink "DesertChannels$Share" (15 : Nat) "DesertChannels$Share" "channel" "LDesertChannels$Channel;") ∈ lw_all := lw_g (lw_at lw_m3 16 rfl) rfl
theorem q530 : (Jvm.Cond.fieldLink "DesertChannels$Share" (19 : Nat) "DesertChannels$Share" "number" "I") ∈ lw_all := lw_g (lw_at lw_m3 18 rfl) rfl
theorem q532 : (Jvm.Cond.fieldLink "DesertChannels$Share" (22 : Nat) "DesertChannels$Share" "from" "I") ∈ lw_all := lw_g (lw_at lw_m3 20 rfl) rfl
theorem q534 : (Jvm.Cond.fieldLink "DesertChannels$Share" (25 : Nat) "DesertChannels$Share" "to" "I") ∈ lw_all := lw_g (lw_at lw_m3 22 rfl) rfl
theorem q536 : (Jvm.Cond.fieldLink "DesertChannels$Share" (28 : Nat) "DesertChannels$Share" "owner" "I") ∈ lw_all := lw_g (lw_at lw_m3 24 rfl) rfl
theorem q538 : (Jvm.Cond.fieldLink "DesertChannels$Share" (9 : Nat) "DesertChannels$Share" "tenant" "I") ∈ lw_all := lw_g (lw_at lw_m3 26 rfl) rfl
theorem q540 : (Jvm.Cond.fieldLink "DesertChannels$Share" (34 : Nat) "DesertChannels$Share" "letFrom" "I") ∈ lw_all := lw_g (lw_at lw_m3 28 rfl) rfl
theorem q542 : (Jvm.Cond.fieldLink "DesertChannels$Share" (31 : Nat) "DesertChannels$Share" "letTo" "I") ∈ lw_all := lw_g (lw_at lw_m3 30 rfl) rfl
theorem q544 : (Jvm.Cond.laysFinal "DesertChannels$Share" "DesertChannels$Share" "channel" "LDesertChannels$Channel;") ∈ lw_all := lw_g (lw_at lw_m3 32 rfl) rfl
theorem q545 : (Jvm.Cond.soleField "DesertChannels$Share" "channel") ∈ lw_all := lw_g (lw_at lw_m3 33 rfl) rfl
theorem q546 : (Jvm.Cond.laysFinal "DesertChannels$Share" "DesertChannels$Share" "number" "I") ∈ lw_all := lw_g (lw_at lw_m3 34 rfl) rfl
theorem q547 : (Jvm.Cond.soleField "DesertChannels$Share" "number") ∈ lw_all := lw_g (lw_at lw_m3 35 rfl) rfl
theorem q548 : (Jvm.Cond.lays "DesertChannels$Share" "DesertChannels$Share" "from" "I") ∈ lw_all := lw_g (lw_at lw_m3 36 rfl) rfl
theorem q549 : (Jvm.Cond.soleField "DesertChannels$Share" "from") ∈ lw_all := lw_g (lw_at lw_m3 37 rfl) rfl
theorem q550 : (Jvm.Cond.lays "DesertChannels$Share" "DesertChannels$Share" "to" "I") ∈ lw_all := lw_g (lw_at lw_m3 38 rfl) rfl
theorem q551 : (Jvm.Cond.soleField "DesertChannels$Share" "to") ∈ lw_all := lw_g (lw_at lw_m3 39 rfl) rfl
theorem q552 : (Jvm.Cond.lays "DesertChannels$Share" "DesertChannels$Share" "owner" "I") ∈ lw_all := lw_g (lw_at lw_m3 40 rfl) rfl
theorem q553 : (Jvm.Cond.soleField "DesertChannels$Share" "owner") ∈ lw_all := lw_g (lw_at lw_m3 41 rfl) rfl
theorem q554 : (Jvm.Cond.lays "DesertChannels$Share" "DesertChannels$Share" "tenant" "I") ∈ lw_all := lw_g (lw_at lw_m3 42 rfl) rfl
theorem q555 : (Jvm.Cond.soleField "DesertChannels$Share" "tenant") ∈ lw_all := lw_g (lw_at lw_m3 43 rfl) rfl
theorem q556 : (Jvm.Cond.lays "DesertChannels$Share" "DesertChannels$Share" "letFrom" "I") ∈ lw_all := lw_g (lw_at lw_m3 44 rfl) rfl
theorem q557 : (Jvm.Cond.soleField "DesertChannels$Share" "letFrom") ∈ lw_all := lw_g (lw_at lw_m3 45 rfl) rfl
theorem q558 : (Jvm.Cond.lays "DesertChannels$Share" "DesertChannels$Share" "letTo" "I") ∈ lw_all := lw_g (lw_at lw_m3 46 rfl) rfl
theorem q559 : (Jvm.Cond.soleField "DesertChannels$Share" "letTo") ∈ lw_all := lw_g (lw_at lw_m3 47 rfl) rfl
theorem q560 : (Jvm.Cond.superclass "DesertChannels$Share" "java/lang/Object") ∈ lw_all := lw_g (lw_at lw_m3 48 rfl) rfl
theorem q612 : (Jvm.Cond.instanceMethod ({ cls := "DesertChannels$Share", name := "be", desc := "(III)V" } : Jvm.MethodName)) ∈ lw_all := lw_g (lw_at lw_m3 100 rfl) rfl
theorem q613 : (Jvm.Cond.selects "DesertChannels$Share" ({ cls := "DesertChannels$Share", name := "be", desc := "(III)V" } : Jvm.MethodName) ({ cls := "DesertChannels$Share", name := "be", desc := "(III)V" } : Jvm.MethodName)) ∈ lw_all := lw_g (lw_at lw_m3 101 rfl) rfl
theorem q614 : (Jvm.Cond.code ({ cls := "DesertChannels$Share", name := "be", desc := "(III)V" } : Jvm.MethodName) prog_4_method_4_code (4 : Nat) (Option.none : Option Jvm.ClassFile.FieldType)) ∈ lw_all := lw_g (lw_at lw_m3 102 rfl) rfl
theorem q646 : (Jvm.Cond.instanceMethod ({ cls := "DesertChannels$Share", name := "holder", desc := "(I)I" } : Jvm.MethodName)) ∈ lw_all := lw_g (lw_at lw_m3 134 rfl) rfl
theorem q647 : (Jvm.Cond.selects "DesertChannels$Share" ({ cls := "DesertChannels$Share", name := "holder", desc := "(I)I" } : Jvm.MethodName) ({ cls := "DesertChannels$Share", name := "holder", desc := "(I)I" } : Jvm.MethodName)) ∈ lw_all := lw_g (lw_at lw_m3 135 rfl) rfl
theorem q648 : (Jvm.Cond.code ({ cls := "DesertChannels$Share", name := "holder", desc := "(I)I" } : Jvm.MethodName) prog_4_method_3_code (2 : Nat) (Option.some Jvm.ClassFile.FieldType.int)) ∈ lw_all := lw_g (lw_at lw_m3 136 rfl) rfl
theorem q1109 : (Jvm.Cond.castable "DesertChannels$Share" "java/lang/Object") ∈ lw_tbl := lw_at lw_m5 117 rfl
theorem in_X7 : ∀ w ∈ wsX70, w ∈ lw_all := lw_in wsX70 [544, 546, 548, 550, 552, 554, 556, 558] (by decide +kernel) (by decide +kernel)
theorem q51 : (Jvm.Cond.initialized "java/lang/System") ∈ lw_all := lw_g (lw_at lw_m1 19 rfl) rfl
theorem q681 : (Jvm.Cond.static ({ cls := "java/lang/System", name := "arraycopy", desc := "(Ljava/lang/Object;ILjava/lang/Object;II)V" } : Jvm.MethodName)) ∈ lw_all := lw_g (lw_at lw_m3 169 rfl) rfl
theorem q682 : (Jvm.Cond.native ({ cls := "java/lang/System", name := "arraycopy", desc := "(Ljava/lang/Object;ILjava/lang/Object;II)V" } : Jvm.MethodName)) ∈ lw_all := lw_g (lw_at lw_m3 170 rfl) rfl
theorem q70 : (Jvm.Cond.arrayOver (Jvm.ClassFile.FieldType.object "java/lang/String")) ∈ lw_tbl := lw_at lw_m1 38 rfl
theorem q151 : (Jvm.Cond.arrayClass Jvm.ClassFile.FieldType.byte) ∈ lw_all := lw_g (lw_at lw_m1 119 rfl) rfl
theorem q173 : (Jvm.Cond.arrayOver (Jvm.ClassFile.FieldType.object "DesertChannels$Channel")) ∈ lw_tbl := lw_at lw_m1 141 rfl
theorem q175 : (Jvm.Cond.arrayOver (Jvm.ClassFile.FieldType.object "DesertChannels$Share")) ∈ lw_tbl := lw_at lw_m1 143 rfl
theorem q240 : (Jvm.Cond.arrayClass Jvm.ClassFile.FieldType.int) ∈ lw_all := lw_g (lw_at lw_m1 208 rfl) rfl
theorem q241 : (Jvm.Cond.arrayClass Jvm.ClassFile.FieldType.long) ∈ lw_all := lw_g (lw_at lw_m1 209 rfl) rfl
theorem q374 : (Jvm.Cond.arrayOver (Jvm.ClassFile.FieldType.object "DesertChannels$Well")) ∈ lw_tbl := lw_at lw_m2 102 rfl
theorem q890 : (Jvm.Cond.arrayClass Jvm.ClassFile.FieldType.boolean) ∈ lw_all := lw_g (lw_at lw_m4 138 rfl) rfl
