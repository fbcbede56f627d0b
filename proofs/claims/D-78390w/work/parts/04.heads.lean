set_option maxRecDepth 100000
def RJ0 : String := "java/util/AbstractMap"
def RJ1 : String := "java/util/HashMap"
def TJ1 : u_T := fun k => match k with
  | 0 => ("java/util/AbstractMap", "keySet", "Ljava/util/Set;", false)
  | 1 => ("java/util/AbstractMap", "values", "Ljava/util/Collection;", false)
  | 2 => ("java/util/HashMap", "table", "[Ljava/util/HashMap$Node;", false)
  | 3 => ("java/util/HashMap", "entrySet", "Ljava/util/Set;", false)
  | 4 => ("java/util/HashMap", "size", "I", false)
  | 5 => ("java/util/HashMap", "modCount", "I", false)
  | 6 => ("java/util/HashMap", "threshold", "I", false)
  | _ => ("java/util/HashMap", "loadFactor", "F", true)
def tyJ1 : Nat → FieldType := fun k => match k with
  | 0 => .object "java/util/Set"
  | 1 => .object "java/util/Collection"
  | 2 => .array (.object "java/util/HashMap$Node")
  | 3 => .object "java/util/Set"
  | 4 => .int
  | 5 => .int
  | 6 => .int
  | _ => .float
abbrev wsJ10 : List Cond := u_ws RJ1 TJ1 8
theorem nmJ1 : ∀ a, a < 8 → ∀ b, b < 8 → a ≠ b → (TJ1 a).2.1 ≠ (TJ1 b).2.1 := by decide +kernel
theorem tyJ1_ok : ∀ k, k < 8 → parseFieldDescriptor (TJ1 k).2.2.1 = some (tyJ1 k) := by decide +kernel
theorem in_J1 : ∀ w ∈ wsJ10, w ∈ lw_all := lw_in wsJ10 [139, 141, 127, 129, 131, 133, 135, 137] (by decide +kernel) (by decide +kernel)
def RJ10 : String := "java/lang/Exception"
def RJ11 : String := "java/lang/RuntimeException"
def RJ12 : String := "java/lang/IllegalArgumentException"
def TJ12 : u_T := fun k => match k with
  | 0 => ("java/lang/Throwable", "cause", "Ljava/lang/Throwable;", false)
  | 1 => ("java/lang/Throwable", "stackTrace", "[Ljava/lang/StackTraceElement;", false)
  | 2 => ("java/lang/Throwable", "suppressedExceptions", "Ljava/util/List;", false)
  | 3 => ("java/lang/Throwable", "detailMessage", "Ljava/lang/String;", false)
  | 4 => ("java/lang/Throwable", "backtrace", "Ljava/lang/Object;", false)
  | _ => ("java/lang/Throwable", "depth", "I", false)
def tyJ12 : Nat → FieldType := fun k => match k with
  | 0 => .object "java/lang/Throwable"
  | 1 => .array (.object "java/lang/StackTraceElement")
  | 2 => .object "java/util/List"
  | 3 => .object "java/lang/String"
  | 4 => .object "java/lang/Object"
  | _ => .int
abbrev wsJ120 : List Cond := u_ws RJ12 TJ12 6
theorem nmJ12 : ∀ a, a < 6 → ∀ b, b < 6 → a ≠ b → (TJ12 a).2.1 ≠ (TJ12 b).2.1 := by decide +kernel
theorem tyJ12_ok : ∀ k, k < 6 → parseFieldDescriptor (TJ12 k).2.2.1 = some (tyJ12 k) := by decide +kernel
theorem in_J12 : ∀ w ∈ wsJ120, w ∈ lw_all := lw_in wsJ120 [294, 296, 298, 300, 302, 556] (by decide +kernel) (by decide +kernel)
def RJ13 : String := "java/lang/AbstractStringBuilder"
def RJ14 : String := "java/lang/StringBuilder"
def TJ14 : u_T := fun k => match k with
  | 0 => ("java/lang/AbstractStringBuilder", "value", "[B", false)
  | 1 => ("java/lang/AbstractStringBuilder", "coder", "B", false)
  | 2 => ("java/lang/AbstractStringBuilder", "maybeLatin1", "Z", false)
  | _ => ("java/lang/AbstractStringBuilder", "count", "I", false)
def tyJ14 : Nat → FieldType := fun k => match k with
  | 0 => .array .byte
  | 1 => .byte
  | 2 => .boolean
  | _ => .int
abbrev wsJ140 : List Cond := u_ws RJ14 TJ14 4
theorem nmJ14 : ∀ a, a < 4 → ∀ b, b < 4 → a ≠ b → (TJ14 a).2.1 ≠ (TJ14 b).2.1 := by decide +kernel
theorem tyJ14_ok : ∀ k, k < 4 → parseFieldDescriptor (TJ14 k).2.2.1 = some (tyJ14 k) := by decide +kernel
theorem in_J14 : ∀ w ∈ wsJ140, w ∈ lw_all := lw_in wsJ140 [346, 348, 350, 352] (by decide +kernel) (by decide +kernel)
def RJ15 : String := "java/lang/Math"
def RJ16 : String := "java/util/Arrays"
def RJ17 : String := "jdk/internal/util/Preconditions"
def RJ18 : String := "java/util/HashMap$Node"
def TJ18 : u_T := fun k => match k with
  | 0 => ("java/util/HashMap$Node", "hash", "I", true)
  | 1 => ("java/util/HashMap$Node", "key", "Ljava/lang/Object;", true)
  | 2 => ("java/util/HashMap$Node", "value", "Ljava/lang/Object;", false)
  | _ => ("java/util/HashMap$Node", "next", "Ljava/util/HashMap$Node;", false)
def tyJ18 : Nat → FieldType := fun k => match k with
  | 0 => .int
  | 1 => .object "java/lang/Object"
  | 2 => .object "java/lang/Object"
  | _ => .object "java/util/HashMap$Node"
abbrev wsJ180 : List Cond := u_ws RJ18 TJ18 4
theorem nmJ18 : ∀ a, a < 4 → ∀ b, b < 4 → a ≠ b → (TJ18 a).2.1 ≠ (TJ18 b).2.1 := by decide +kernel
theorem tyJ18_ok : ∀ k, k < 4 → parseFieldDescriptor (TJ18 k).2.2.1 = some (tyJ18 k) := by decide +kernel
theorem in_J18 : ∀ w ∈ wsJ180, w ∈ lw_all := lw_in wsJ180 [641, 643, 645, 647] (by decide +kernel) (by decide +kernel)
def RJ19 : String := "jdk/internal/misc/Unsafe"
def RJ2 : String := "java/lang/Character"
def TJ2 : u_T := fun k => match k with
  | _ => ("java/lang/Character", "value", "C", true)
def tyJ2 : Nat → FieldType := fun k => match k with
  | _ => .char
abbrev wsJ20 : List Cond := u_ws RJ2 TJ2 1
theorem nmJ2 : ∀ a, a < 1 → ∀ b, b < 1 → a ≠ b → (TJ2 a).2.1 ≠ (TJ2 b).2.1 := by decide +kernel
theorem tyJ2_ok : ∀ k, k < 1 → parseFieldDescriptor (TJ2 k).2.2.1 = some (tyJ2 k) := by decide +kernel
theorem in_J2 : ∀ w ∈ wsJ20, w ∈ lw_all := lw_in wsJ20 [156] (by decide +kernel) (by decide +kernel)
def RJ20 : String := "java/lang/Long"
def RJ21 : String := "java/util/LinkedHashMap$Entry"
def RJ22 : String := "java/util/HashMap$TreeNode"
def TJ22 : u_T := fun k => match k with
  | 0 => ("java/util/LinkedHashMap$Entry", "before", "Ljava/util/LinkedHashMap$Entry;", false)
  | 1 => ("java/util/LinkedHashMap$Entry", "after", "Ljava/util/LinkedHashMap$Entry;", false)
  | 2 => ("java/util/HashMap$Node", "hash", "I", true)
  | 3 => ("java/util/HashMap$Node", "key", "Ljava/lang/Object;", true)
  | 4 => ("java/util/HashMap$Node", "value", "Ljava/lang/Object;", false)
  | 5 => ("java/util/HashMap$Node", "next", "Ljava/util/HashMap$Node;", false)
  | 6 => ("java/util/HashMap$TreeNode", "parent", "Ljava/util/HashMap$TreeNode;", false)
  | 7 => ("java/util/HashMap$TreeNode", "left", "Ljava/util/HashMap$TreeNode;", false)
  | 8 => ("java/util/HashMap$TreeNode", "right", "Ljava/util/HashMap$TreeNode;", false)
  | 9 => ("java/util/HashMap$TreeNode", "prev", "Ljava/util/HashMap$TreeNode;", false)
  | _ => ("java/util/HashMap$TreeNode", "red", "Z", false)
def tyJ22 : Nat → FieldType := fun k => match k with
  | 0 => .object "java/util/LinkedHashMap$Entry"
  | 1 => .object "java/util/LinkedHashMap$Entry"
  | 2 => .int
  | 3 => .object "java/lang/Object"
  | 4 => .object "java/lang/Object"
  | 5 => .object "java/util/HashMap$Node"
  | 6 => .object "java/util/HashMap$TreeNode"
  | 7 => .object "java/util/HashMap$TreeNode"
  | 8 => .object "java/util/HashMap$TreeNode"
  | 9 => .object "java/util/HashMap$TreeNode"
  | _ => .boolean
abbrev wsJ220 : List Cond := u_ws RJ22 TJ22 11
theorem nmJ22 : ∀ a, a < 11 → ∀ b, b < 11 → a ≠ b → (TJ22 a).2.1 ≠ (TJ22 b).2.1 := by decide +kernel
theorem tyJ22_ok : ∀ k, k < 11 → parseFieldDescriptor (TJ22 k).2.2.1 = some (tyJ22 k) := by decide +kernel
theorem in_J22 : ∀ w ∈ wsJ220, w ∈ lw_all := lw_in wsJ220 [1001, 1003, 1005, 1006, 1007, 1008, 991, 993, 995, 997, 999] (by decide +kernel) (by decide +kernel)
def RJ23 : String := "java/util/Objects"
def RJ24 : String := "java/util/AbstractCollection"
def RJ25 : String := "java/util/AbstractList"
def RJ26 : String := "java/util/ArrayList"
def TJ26 : u_T := fun k => match k with
  | 0 => ("java/util/AbstractList", "modCount", "I", false)
  | 1 => ("java/util/ArrayList", "elementData", "[Ljava/lang/Object;", false)
  | _ => ("java/util/ArrayList", "size", "I", false)
def tyJ26 : Nat → FieldType := fun k => match k with
  | 0 => .int
  | 1 => .array (.object "java/lang/Object")
  | _ => .int
abbrev wsJ260 : List Cond := u_ws RJ26 TJ26 3
theorem nmJ26 : ∀ a, a < 3 → ∀ b, b < 3 → a ≠ b → (TJ26 a).2.1 ≠ (TJ26 b).2.1 := by decide +kernel
theorem tyJ26_ok : ∀ k, k < 3 → parseFieldDescriptor (TJ26 k).2.2.1 = some (tyJ26 k) := by decide +kernel
theorem in_J26 : ∀ w ∈ wsJ260, w ∈ lw_all := lw_in wsJ260 [1184, 1180, 1182] (by decide +kernel) (by decide +kernel)
def RJ27 : String := "java/util/ArrayDeque"
def TJ27 : u_T := fun k => match k with
  | 0 => ("java/util/ArrayDeque", "elements", "[Ljava/lang/Object;", false)
  | 1 => ("java/util/ArrayDeque", "head", "I", false)
  | _ => ("java/util/ArrayDeque", "tail", "I", false)
def tyJ27 : Nat → FieldType := fun k => match k with
  | 0 => .array (.object "java/lang/Object")
  | 1 => .int
  | _ => .int
abbrev wsJ270 : List Cond := u_ws RJ27 TJ27 3
theorem nmJ27 : ∀ a, a < 3 → ∀ b, b < 3 → a ≠ b → (TJ27 a).2.1 ≠ (TJ27 b).2.1 := by decide +kernel
theorem tyJ27_ok : ∀ k, k < 3 → parseFieldDescriptor (TJ27 k).2.2.1 = some (tyJ27 k) := by decide +kernel
theorem in_J27 : ∀ w ∈ wsJ270, w ∈ lw_all := lw_in wsJ270 [1244, 1246, 1248] (by decide +kernel) (by decide +kernel)
def RJ28 : String := "java/lang/IllegalStateException"
def TJ28 : u_T := fun k => match k with
  | 0 => ("java/lang/Throwable", "cause", "Ljava/lang/Throwable;", false)
  | 1 => ("java/lang/Throwable", "stackTrace", "[Ljava/lang/StackTraceElement;", false)
  | 2 => ("java/lang/Throwable", "suppressedExceptions", "Ljava/util/List;", false)
  | 3 => ("java/lang/Throwable", "detailMessage", "Ljava/lang/String;", false)
  | 4 => ("java/lang/Throwable", "backtrace", "Ljava/lang/Object;", false)
  | _ => ("java/lang/Throwable", "depth", "I", false)
def tyJ28 : Nat → FieldType := fun k => match k with
  | 0 => .object "java/lang/Throwable"
  | 1 => .array (.object "java/lang/StackTraceElement")
  | 2 => .object "java/util/List"
  | 3 => .object "java/lang/String"
  | 4 => .object "java/lang/Object"
  | _ => .int
abbrev wsJ280 : List Cond := u_ws RJ28 TJ28 6
theorem nmJ28 : ∀ a, a < 6 → ∀ b, b < 6 → a ≠ b → (TJ28 a).2.1 ≠ (TJ28 b).2.1 := by decide +kernel
theorem tyJ28_ok : ∀ k, k < 6 → parseFieldDescriptor (TJ28 k).2.2.1 = some (tyJ28 k) := by decide +kernel
theorem in_J28 : ∀ w ∈ wsJ280, w ∈ lw_all := lw_in wsJ280 [1358, 1359, 1360, 1361, 1362, 1368] (by decide +kernel) (by decide +kernel)
def RJ29 : String := "java/lang/IndexOutOfBoundsException"
def TJ29 : u_T := fun k => match k with
  | 0 => ("java/lang/Throwable", "cause", "Ljava/lang/Throwable;", false)
  | 1 => ("java/lang/Throwable", "stackTrace", "[Ljava/lang/StackTraceElement;", false)
  | 2 => ("java/lang/Throwable", "suppressedExceptions", "Ljava/util/List;", false)
  | 3 => ("java/lang/Throwable", "detailMessage", "Ljava/lang/String;", false)
  | 4 => ("java/lang/Throwable", "backtrace", "Ljava/lang/Object;", false)
  | _ => ("java/lang/Throwable", "depth", "I", false)
def tyJ29 : Nat → FieldType := fun k => match k with
  | 0 => .object "java/lang/Throwable"
  | 1 => .array (.object "java/lang/StackTraceElement")
  | 2 => .object "java/util/List"
  | 3 => .object "java/lang/String"
  | 4 => .object "java/lang/Object"
  | _ => .int
abbrev wsJ290 : List Cond := u_ws RJ29 TJ29 6
theorem nmJ29 : ∀ a, a < 6 → ∀ b, b < 6 → a ≠ b → (TJ29 a).2.1 ≠ (TJ29 b).2.1 := by decide +kernel
theorem tyJ29_ok : ∀ k, k < 6 → parseFieldDescriptor (TJ29 k).2.2.1 = some (tyJ29 k) := by decide +kernel
theorem in_J29 : ∀ w ∈ wsJ290, w ∈ lw_all := lw_in wsJ290 [1501, 1502, 1503, 1504, 1505, 1521] (by decide +kernel) (by decide +kernel)
def RJ3 : String := "java/lang/Number"
def RJ30 : String := "java/lang/ArrayIndexOutOfBoundsException"
def TJ30 : u_T := fun k => match k with
  | 0 => ("java/lang/Throwable", "backtrace", "Ljava/lang/Object;", false)
  | 1 => ("java/lang/Throwable", "detailMessage", "Ljava/lang/String;", false)
  | 2 => ("java/lang/Throwable", "cause", "Ljava/lang/Throwable;", false)
  | 3 => ("java/lang/Throwable", "stackTrace", "[Ljava/lang/StackTraceElement;", false)
  | 4 => ("java/lang/Throwable", "depth", "I", false)
  | _ => ("java/lang/Throwable", "suppressedExceptions", "Ljava/util/List;", false)
def tyJ30 : Nat → FieldType := fun k => match k with
  | 0 => .object "java/lang/Object"
  | 1 => .object "java/lang/String"
  | 2 => .object "java/lang/Throwable"
  | 3 => .array (.object "java/lang/StackTraceElement")
  | 4 => .int
  | _ => .object "java/util/List"
abbrev wsJ300 : List Cond := u_ws RJ30 TJ30 6
theorem nmJ30 : ∀ a, a < 6 → ∀ b, b < 6 → a ≠ b → (TJ30 a).2.1 ≠ (TJ30 b).2.1 := by decide +kernel
theorem tyJ30_ok : ∀ k, k < 6 → parseFieldDescriptor (TJ30 k).2.2.1 = some (tyJ30 k) := by decide +kernel
theorem in_J30 : ∀ w ∈ wsJ300, w ∈ lw_all := lw_in wsJ300 [1967, 1968, 1969, 1970, 1971, 1972] (by decide +kernel) (by decide +kernel)
def RJ31 : String := "java/lang/Object"
def RJ32 : String := "java/lang/System$2"
def RJ4 : String := "java/lang/Integer"
def TJ4 : u_T := fun k => match k with
  | _ => ("java/lang/Integer", "value", "I", true)
def tyJ4 : Nat → FieldType := fun k => match k with
  | _ => .int
abbrev wsJ40 : List Cond := u_ws RJ4 TJ4 1
theorem nmJ4 : ∀ a, a < 1 → ∀ b, b < 1 → a ≠ b → (TJ4 a).2.1 ≠ (TJ4 b).2.1 := by decide +kernel
theorem tyJ4_ok : ∀ k, k < 1 → parseFieldDescriptor (TJ4 k).2.2.1 = some (tyJ4 k) := by decide +kernel
theorem in_J4 : ∀ w ∈ wsJ40, w ∈ lw_all := lw_in wsJ40 [176] (by decide +kernel) (by decide +kernel)
def RJ5 : String := "java/lang/String"
def TJ5 : u_T := fun k => match k with
  | 0 => ("java/lang/String", "value", "[B", true)
  | 1 => ("java/lang/String", "coder", "B", true)
  | 2 => ("java/lang/String", "hash", "I", false)
  | _ => ("java/lang/String", "hashIsZero", "Z", false)
def tyJ5 : Nat → FieldType := fun k => match k with
  | 0 => .array .byte
  | 1 => .byte
  | 2 => .int
  | _ => .boolean
abbrev wsJ50 : List Cond := u_ws RJ5 TJ5 4
theorem nmJ5 : ∀ a, a < 4 → ∀ b, b < 4 → a ≠ b → (TJ5 a).2.1 ≠ (TJ5 b).2.1 := by decide +kernel
theorem tyJ5_ok : ∀ k, k < 4 → parseFieldDescriptor (TJ5 k).2.2.1 = some (tyJ5 k) := by decide +kernel
theorem in_J5 : ∀ w ∈ wsJ50, w ∈ lw_all := lw_in wsJ50 [575, 577, 579, 581] (by decide +kernel) (by decide +kernel)
def RJ6 : String := "java/lang/StringLatin1"
def RJ7 : String := "jdk/internal/util/ArraysSupport"
def RJ8 : String := "java/lang/StringUTF16"
def RJ9 : String := "java/lang/Throwable"
def TJ9 : u_T := fun k => match k with
  | 0 => ("java/lang/Throwable", "cause", "Ljava/lang/Throwable;", false)
  | 1 => ("java/lang/Throwable", "stackTrace", "[Ljava/lang/StackTraceElement;", false)
  | 2 => ("java/lang/Throwable", "suppressedExceptions", "Ljava/util/List;", false)
  | 3 => ("java/lang/Throwable", "detailMessage", "Ljava/lang/String;", false)
  | _ => ("java/lang/Throwable", "backtrace", "Ljava/lang/Object;", false)
def tyJ9 : Nat → FieldType := fun k => match k with
  | 0 => .object "java/lang/Throwable"
  | 1 => .array (.object "java/lang/StackTraceElement")
  | 2 => .object "java/util/List"
  | 3 => .object "java/lang/String"
  | _ => .object "java/lang/Object"
abbrev wsJ90 : List Cond := u_ws RJ9 TJ9 5
theorem nmJ9 : ∀ a, a < 5 → ∀ b, b < 5 → a ≠ b → (TJ9 a).2.1 ≠ (TJ9 b).2.1 := by decide +kernel
theorem tyJ9_ok : ∀ k, k < 5 → parseFieldDescriptor (TJ9 k).2.2.1 = some (tyJ9 k) := by decide +kernel
theorem in_J9 : ∀ w ∈ wsJ90, w ∈ lw_all := lw_in wsJ90 [295, 297, 299, 301, 303] (by decide +kernel) (by decide +kernel)
def RX0 : String := "FormulaEditorLaw"
def RX1 : String := "FormulaEditor"
def TX1 : u_T := fun k => match k with
  | 0 => ("FormulaEditor", "scripts", "Ljava/util/Map;", true)
  | 1 => ("FormulaEditor", "shapes", "[LFormulaEditor$Shape;", true)
  | 2 => ("FormulaEditor", "brushes", "[LFormulaEditor$Brush;", true)
  | 3 => ("FormulaEditor", "now", "LFormulaEditor$Document;", false)
  | 4 => ("FormulaEditor", "clipboard", "LFormulaEditor$Row;", false)
  | 5 => ("FormulaEditor", "history", "Ljava/util/Deque;", true)
  | 6 => ("FormulaEditor", "slots", "[LFormulaEditor$Document;", true)
  | 7 => ("FormulaEditor", "text", "[C", true)
  | _ => ("FormulaEditor", "textLength", "I", false)
def tyX1 : Nat → FieldType := fun k => match k with
  | 0 => .object "java/util/Map"
  | 1 => .array (.object "FormulaEditor$Shape")
  | 2 => .array (.object "FormulaEditor$Brush")
  | 3 => .object "FormulaEditor$Document"
  | 4 => .object "FormulaEditor$Row"
  | 5 => .object "java/util/Deque"
  | 6 => .array (.object "FormulaEditor$Document")
  | 7 => .array .char
  | _ => .int
abbrev wsX10 : List Cond := u_ws RX1 TX1 9
theorem nmX1 : ∀ a, a < 9 → ∀ b, b < 9 → a ≠ b → (TX1 a).2.1 ≠ (TX1 b).2.1 := by decide +kernel
theorem tyX1_ok : ∀ k, k < 9 → parseFieldDescriptor (TX1 k).2.2.1 = some (tyX1 k) := by decide +kernel
theorem in_X1 : ∀ w ∈ wsX10, w ∈ lw_all := lw_in wsX10 [1264, 1266, 1268, 1270, 1272, 1274, 1276, 1278, 1280] (by decide +kernel) (by decide +kernel)
def RX10 : String := "FormulaEditor$Role"
def TX10 : u_T := fun k => match k with
  | 0 => ("FormulaEditor$Role", "script", "I", true)
  | _ => ("FormulaEditor$Role", "isOfFactor", "Z", true)
def tyX10 : Nat → FieldType := fun k => match k with
  | 0 => .int
  | _ => .boolean
abbrev wsX100 : List Cond := u_ws RX10 TX10 2
theorem nmX10 : ∀ a, a < 2 → ∀ b, b < 2 → a ≠ b → (TX10 a).2.1 ≠ (TX10 b).2.1 := by decide +kernel
theorem tyX10_ok : ∀ k, k < 2 → parseFieldDescriptor (TX10 k).2.2.1 = some (tyX10 k) := by decide +kernel
theorem in_X10 : ∀ w ∈ wsX100, w ∈ lw_all := lw_in wsX100 [1602, 1604] (by decide +kernel) (by decide +kernel)
def RX11 : String := "FormulaEditor$Symbol"
def TX11 : u_T := fun k => match k with
  | 0 => ("FormulaEditor$Item", "row", "LFormulaEditor$Row;", false)
  | _ => ("FormulaEditor$Symbol", "sign", "C", false)
def tyX11 : Nat → FieldType := fun k => match k with
  | 0 => .object "FormulaEditor$Row"
  | _ => .char
abbrev wsX110 : List Cond := u_ws RX11 TX11 2
theorem nmX11 : ∀ a, a < 2 → ∀ b, b < 2 → a ≠ b → (TX11 a).2.1 ≠ (TX11 b).2.1 := by decide +kernel
theorem tyX11_ok : ∀ k, k < 2 → parseFieldDescriptor (TX11 k).2.2.1 = some (tyX11 k) := by decide +kernel
theorem in_X11 : ∀ w ∈ wsX110, w ∈ lw_all := lw_in wsX110 [1617, 1615] (by decide +kernel) (by decide +kernel)
def RX2 : String := "FormulaEditor$Box"
def TX2 : u_T := fun k => match k with
  | 0 => ("FormulaEditor$Box", "width", "I", true)
  | 1 => ("FormulaEditor$Box", "above", "I", true)
  | _ => ("FormulaEditor$Box", "below", "I", true)
def tyX2 : Nat → FieldType := fun k => match k with
  | 0 => .int
  | 1 => .int
  | _ => .int
abbrev wsX20 : List Cond := u_ws RX2 TX2 3
theorem nmX2 : ∀ a, a < 3 → ∀ b, b < 3 → a ≠ b → (TX2 a).2.1 ≠ (TX2 b).2.1 := by decide +kernel
theorem tyX2_ok : ∀ k, k < 3 → parseFieldDescriptor (TX2 k).2.2.1 = some (tyX2 k) := by decide +kernel
theorem in_X2 : ∀ w ∈ wsX20, w ∈ lw_all := lw_in wsX20 [1052, 1054, 1056] (by decide +kernel) (by decide +kernel)
def RX3 : String := "FormulaEditor$Document"
def TX3 : u_T := fun k => match k with
  | 0 => ("FormulaEditor$Document", "main", "LFormulaEditor$Row;", false)
  | 1 => ("FormulaEditor$Document", "row", "LFormulaEditor$Row;", false)
  | 2 => ("FormulaEditor$Document", "index", "I", false)
  | _ => ("FormulaEditor$Document", "selected", "I", false)
def tyX3 : Nat → FieldType := fun k => match k with
  | 0 => .object "FormulaEditor$Row"
  | 1 => .object "FormulaEditor$Row"
  | 2 => .int
  | _ => .int
abbrev wsX30 : List Cond := u_ws RX3 TX3 4
theorem nmX3 : ∀ a, a < 4 → ∀ b, b < 4 → a ≠ b → (TX3 a).2.1 ≠ (TX3 b).2.1 := by decide +kernel
theorem tyX3_ok : ∀ k, k < 4 → parseFieldDescriptor (TX3 k).2.2.1 = some (tyX3 k) := by decide +kernel
theorem in_X3 : ∀ w ∈ wsX30, w ∈ lw_all := lw_in wsX30 [1224, 1226, 1228, 1230] (by decide +kernel) (by decide +kernel)
def RX4 : String := "FormulaEditor$Row"
def TX4 : u_T := fun k => match k with
  | 0 => ("FormulaEditor$Row", "items", "Ljava/util/List;", true)
  | 1 => ("FormulaEditor$Row", "owner", "LFormulaEditor$Structure;", false)
  | 2 => ("FormulaEditor$Row", "slot", "I", false)
  | _ => ("FormulaEditor$Row", "box", "LFormulaEditor$Box;", false)
def tyX4 : Nat → FieldType := fun k => match k with
  | 0 => .object "java/util/List"
  | 1 => .object "FormulaEditor$Structure"
  | 2 => .int
  | _ => .object "FormulaEditor$Box"
abbrev wsX40 : List Cond := u_ws RX4 TX4 4
theorem nmX4 : ∀ a, a < 4 → ∀ b, b < 4 → a ≠ b → (TX4 a).2.1 ≠ (TX4 b).2.1 := by decide +kernel
theorem tyX4_ok : ∀ k, k < 4 → parseFieldDescriptor (TX4 k).2.2.1 = some (tyX4 k) := by decide +kernel
theorem in_X4 : ∀ w ∈ wsX40, w ∈ lw_all := lw_in wsX40 [1203, 1205, 1207, 1209] (by decide +kernel) (by decide +kernel)
def RX5 : String := "FormulaEditorModel"
def TX5 : u_T := fun k => match k with
  | 0 => ("FormulaEditorModel", "refusal", "I", false)
  | 1 => ("FormulaEditorModel", "text", "[I", true)
  | 2 => ("FormulaEditorModel", "textSize", "I", false)
  | 3 => ("FormulaEditorModel", "now", "[I", true)
  | 4 => ("FormulaEditorModel", "trial", "[I", true)
  | 5 => ("FormulaEditorModel", "diary", "[I", true)
  | 6 => ("FormulaEditorModel", "acts", "I", false)
  | 7 => ("FormulaEditorModel", "kept", "[I", true)
  | 8 => ("FormulaEditorModel", "isKept", "[Z", true)
  | 9 => ("FormulaEditorModel", "clip", "[I", true)
  | 10 => ("FormulaEditorModel", "line", "[I", true)
  | 11 => ("FormulaEditorModel", "lineSize", "I", false)
  | 12 => ("FormulaEditorModel", "read", "[I", true)
  | 13 => ("FormulaEditorModel", "readSize", "I", false)
  | 14 => ("FormulaEditorModel", "opens", "[I", true)
  | 15 => ("FormulaEditorModel", "chains", "[I", true)
  | 16 => ("FormulaEditorModel", "factors", "[I", true)
  | 17 => ("FormulaEditorModel", "plains", "[Z", true)
  | 18 => ("FormulaEditorModel", "belows", "[Z", true)
  | 19 => ("FormulaEditorModel", "owned", "[Z", true)
  | 20 => ("FormulaEditorModel", "deep", "I", false)
  | 21 => ("FormulaEditorModel", "wides", "[I", true)
  | 22 => ("FormulaEditorModel", "highs", "[I", true)
  | 23 => ("FormulaEditorModel", "lows", "[I", true)
  | 24 => ("FormulaEditorModel", "itemWides", "[I", true)
  | _ => ("FormulaEditorModel", "pile", "[I", true)
def tyX5 : Nat → FieldType := fun k => match k with
  | 0 => .int
  | 1 => .array .int
  | 2 => .int
  | 3 => .array .int
  | 4 => .array .int
  | 5 => .array .int
  | 6 => .int
  | 7 => .array .int
  | 8 => .array .boolean
  | 9 => .array .int
  | 10 => .array .int
  | 11 => .int
  | 12 => .array .int
  | 13 => .int
  | 14 => .array .int
  | 15 => .array .int
  | 16 => .array .int
  | 17 => .array .boolean
  | 18 => .array .boolean
  | 19 => .array .boolean
  | 20 => .int
  | 21 => .array .int
  | 22 => .array .int
  | 23 => .array .int
  | 24 => .array .int
  | _ => .array .int
abbrev wsX50 : List Cond := u_ws RX5 TX5 26
theorem nmX5 : ∀ a, a < 26 → ∀ b, b < 26 → a ≠ b → (TX5 a).2.1 ≠ (TX5 b).2.1 := by decide +kernel
theorem tyX5_ok : ∀ k, k < 26 → parseFieldDescriptor (TX5 k).2.2.1 = some (tyX5 k) := by decide +kernel
theorem in_X5 : ∀ w ∈ wsX50, w ∈ lw_all := lw_in wsX50 [2384, 2386, 2388, 2390, 2392, 2394, 2396, 2398, 2400, 2402, 2404, 2406, 2408, 2410, 2412, 2414, 2416, 2418, 2420, 2422, 2424, 2426, 2428, 2430, 2432, 2434] (by decide +kernel) (by decide +kernel)
def RX6 : String := "FormulaEditor$Parser"
def TX6 : u_T := fun k => match k with
  | 0 => ("FormulaEditor$Parser", "levels", "Ljava/util/Deque;", true)
  | 1 => ("FormulaEditor$Parser", "position", "I", false)
  | 2 => ("FormulaEditor$Parser", "wanted", "LFormulaEditor$Role;", false)
  | 3 => ("FormulaEditor$Parser", "opensRoot", "Z", false)
  | _ => ("FormulaEditor$Parser", "this$0", "LFormulaEditor;", true)
def tyX6 : Nat → FieldType := fun k => match k with
  | 0 => .object "java/util/Deque"
  | 1 => .int
  | 2 => .object "FormulaEditor$Role"
  | 3 => .boolean
  | _ => .object "FormulaEditor"
abbrev wsX60 : List Cond := u_ws RX6 TX6 5
theorem nmX6 : ∀ a, a < 5 → ∀ b, b < 5 → a ≠ b → (TX6 a).2.1 ≠ (TX6 b).2.1 := by decide +kernel
theorem tyX6_ok : ∀ k, k < 5 → parseFieldDescriptor (TX6 k).2.2.1 = some (tyX6 k) := by decide +kernel
theorem in_X6 : ∀ w ∈ wsX60, w ∈ lw_all := lw_in wsX60 [1387, 1389, 1391, 1393, 1395] (by decide +kernel) (by decide +kernel)
def RX7 : String := "FormulaEditor$Level"
def TX7 : u_T := fun k => match k with
  | 0 => ("FormulaEditor$Level", "row", "LFormulaEditor$Row;", true)
  | 1 => ("FormulaEditor$Level", "role", "LFormulaEditor$Role;", true)
  | 2 => ("FormulaEditor$Level", "isRoot", "Z", true)
  | 3 => ("FormulaEditor$Level", "chain", "LFormulaEditor$Row;", false)
  | 4 => ("FormulaEditor$Level", "factor", "I", false)
  | _ => ("FormulaEditor$Level", "isParenthesesAlone", "Z", false)
def tyX7 : Nat → FieldType := fun k => match k with
  | 0 => .object "FormulaEditor$Row"
  | 1 => .object "FormulaEditor$Role"
  | 2 => .boolean
  | 3 => .object "FormulaEditor$Row"
  | 4 => .int
  | _ => .boolean
abbrev wsX70 : List Cond := u_ws RX7 TX7 6
theorem nmX7 : ∀ a, a < 6 → ∀ b, b < 6 → a ≠ b → (TX7 a).2.1 ≠ (TX7 b).2.1 := by decide +kernel
theorem tyX7_ok : ∀ k, k < 6 → parseFieldDescriptor (TX7 k).2.2.1 = some (tyX7 k) := by decide +kernel
theorem in_X7 : ∀ w ∈ wsX70, w ∈ lw_all := lw_in wsX70 [1319, 1321, 1323, 1325, 1327, 1329] (by decide +kernel) (by decide +kernel)
def RX8 : String := "FormulaEditor$Item"
def RX9 : String := "FormulaEditor$Structure"
def TX9 : u_T := fun k => match k with
  | 0 => ("FormulaEditor$Item", "row", "LFormulaEditor$Row;", false)
  | 1 => ("FormulaEditor$Structure", "kind", "I", true)
  | 2 => ("FormulaEditor$Structure", "slots", "[LFormulaEditor$Row;", true)
  | 3 => ("FormulaEditor$Structure", "readSize", "I", true)
  | 4 => ("FormulaEditor$Structure", "readDepth", "I", true)
  | _ => ("FormulaEditor$Structure", "box", "LFormulaEditor$Box;", false)
def tyX9 : Nat → FieldType := fun k => match k with
  | 0 => .object "FormulaEditor$Row"
  | 1 => .int
  | 2 => .array (.object "FormulaEditor$Row")
  | 3 => .int
  | 4 => .int
  | _ => .object "FormulaEditor$Box"
abbrev wsX90 : List Cond := u_ws RX9 TX9 6
theorem nmX9 : ∀ a, a < 6 → ∀ b, b < 6 → a ≠ b → (TX9 a).2.1 ≠ (TX9 b).2.1 := by decide +kernel
theorem tyX9_ok : ∀ k, k < 6 → parseFieldDescriptor (TX9 k).2.2.1 = some (tyX9 k) := by decide +kernel
theorem in_X9 : ∀ w ∈ wsX90, w ∈ lw_all := lw_in wsX90 [1588, 1578, 1580, 1582, 1584, 1586] (by decide +kernel) (by decide +kernel)
