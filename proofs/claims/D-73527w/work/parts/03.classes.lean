set_option maxRecDepth 100000
/-! java/lang/Math -/
def RJ0 : String := "java/lang/Math"
/-! java/util/List -/
def RJ1 : String := "java/util/List"
/-! java/util/ImmutableCollections -/
def RJ2 : String := "java/util/ImmutableCollections"
/-! java/util/Objects -/
def RJ3 : String := "java/util/Objects"
/-! java/util/AbstractCollection -/
def RJ4 : String := "java/util/AbstractCollection"
/-! java/util/ImmutableCollections$AbstractImmutableCollection -/
def RJ5 : String := "java/util/ImmutableCollections$AbstractImmutableCollection"
/-! java/util/ImmutableCollections$AbstractImmutableList -/
def RJ6 : String := "java/util/ImmutableCollections$AbstractImmutableList"
/-! java/util/ImmutableCollections$List12 -/
def RJ7 : String := "java/util/ImmutableCollections$List12"
def TJ7 : u_T := fun k => match k with
  | 0 => ("java/util/ImmutableCollections$List12", "e0", "Ljava/lang/Object;", true)
  | _ => ("java/util/ImmutableCollections$List12", "e1", "Ljava/lang/Object;", true)
def tyJ7 : Nat → FieldType := fun k => match k with
  | 0 => .object "java/lang/Object"
  | _ => .object "java/lang/Object"
abbrev wsJ70 : List Cond := u_ws RJ7 TJ7 2
theorem nmJ7 : ∀ a, a < 2 → ∀ b, b < 2 → a ≠ b → (TJ7 a).2.1 ≠ (TJ7 b).2.1 := by decide +kernel
theorem tyJ7_ok : ∀ k, k < 2 → parseFieldDescriptor (TJ7 k).2.2.1 = some (tyJ7 k) := by decide +kernel
theorem in_J7 : ∀ w ∈ wsJ70, w ∈ lw_all := lw_in wsJ70 [274, 276] (by decide +kernel) (by decide +kernel)
/-! java/util/ImmutableCollections$ListN -/
def RJ8 : String := "java/util/ImmutableCollections$ListN"
def TJ8 : u_T := fun k => match k with
  | 0 => ("java/util/ImmutableCollections$ListN", "elements", "[Ljava/lang/Object;", true)
  | _ => ("java/util/ImmutableCollections$ListN", "allowNulls", "Z", true)
def tyJ8 : Nat → FieldType := fun k => match k with
  | 0 => .array (.object "java/lang/Object")
  | _ => .boolean
abbrev wsJ80 : List Cond := u_ws RJ8 TJ8 2
theorem nmJ8 : ∀ a, a < 2 → ∀ b, b < 2 → a ≠ b → (TJ8 a).2.1 ≠ (TJ8 b).2.1 := by decide +kernel
theorem tyJ8_ok : ∀ k, k < 2 → parseFieldDescriptor (TJ8 k).2.2.1 = some (tyJ8 k) := by decide +kernel
theorem in_J8 : ∀ w ∈ wsJ80, w ∈ lw_all := lw_in wsJ80 [290, 292] (by decide +kernel) (by decide +kernel)
/-! java/util/AbstractList -/
def RJ9 : String := "java/util/AbstractList"
/-! java/util/AbstractSequentialList -/
def RJ10 : String := "java/util/AbstractSequentialList"
/-! java/util/LinkedList -/
def RJ11 : String := "java/util/LinkedList"
def TJ11 : u_T := fun k => match k with
  | 0 => ("java/util/AbstractList", "modCount", "I", false)
  | 1 => ("java/util/LinkedList", "size", "I", false)
  | 2 => ("java/util/LinkedList", "first", "Ljava/util/LinkedList$Node;", false)
  | _ => ("java/util/LinkedList", "last", "Ljava/util/LinkedList$Node;", false)
def tyJ11 : Nat → FieldType := fun k => match k with
  | 0 => .int
  | 1 => .int
  | 2 => .object "java/util/LinkedList$Node"
  | _ => .object "java/util/LinkedList$Node"
abbrev wsJ110 : List Cond := u_ws RJ11 TJ11 4
theorem nmJ11 : ∀ a, a < 4 → ∀ b, b < 4 → a ≠ b → (TJ11 a).2.1 ≠ (TJ11 b).2.1 := by decide +kernel
theorem tyJ11_ok : ∀ k, k < 4 → parseFieldDescriptor (TJ11 k).2.2.1 = some (tyJ11 k) := by decide +kernel
theorem in_J11 : ∀ w ∈ wsJ110, w ∈ lw_all := lw_in wsJ110 [382, 376, 378, 380] (by decide +kernel) (by decide +kernel)
/-! java/util/ArrayDeque -/
def RJ12 : String := "java/util/ArrayDeque"
def TJ12 : u_T := fun k => match k with
  | 0 => ("java/util/ArrayDeque", "elements", "[Ljava/lang/Object;", false)
  | 1 => ("java/util/ArrayDeque", "head", "I", false)
  | _ => ("java/util/ArrayDeque", "tail", "I", false)
def tyJ12 : Nat → FieldType := fun k => match k with
  | 0 => .array (.object "java/lang/Object")
  | 1 => .int
  | _ => .int
abbrev wsJ120 : List Cond := u_ws RJ12 TJ12 3
theorem nmJ12 : ∀ a, a < 3 → ∀ b, b < 3 → a ≠ b → (TJ12 a).2.1 ≠ (TJ12 b).2.1 := by decide +kernel
theorem tyJ12_ok : ∀ k, k < 3 → parseFieldDescriptor (TJ12 k).2.2.1 = some (tyJ12 k) := by decide +kernel
theorem in_J12 : ∀ w ∈ wsJ120, w ∈ lw_all := lw_in wsJ120 [468, 470, 472] (by decide +kernel) (by decide +kernel)
/-! java/util/BitSet -/
def RJ13 : String := "java/util/BitSet"
def TJ13 : u_T := fun k => match k with
  | 0 => ("java/util/BitSet", "words", "[J", false)
  | 1 => ("java/util/BitSet", "wordsInUse", "I", false)
  | _ => ("java/util/BitSet", "sizeIsSticky", "Z", false)
def tyJ13 : Nat → FieldType := fun k => match k with
  | 0 => .array .long
  | 1 => .int
  | _ => .boolean
abbrev wsJ130 : List Cond := u_ws RJ13 TJ13 3
theorem nmJ13 : ∀ a, a < 3 → ∀ b, b < 3 → a ≠ b → (TJ13 a).2.1 ≠ (TJ13 b).2.1 := by decide +kernel
theorem tyJ13_ok : ∀ k, k < 3 → parseFieldDescriptor (TJ13 k).2.2.1 = some (tyJ13 k) := by decide +kernel
theorem in_J13 : ∀ w ∈ wsJ130, w ∈ lw_all := lw_in wsJ130 [492, 494, 496] (by decide +kernel) (by decide +kernel)
/-! java/lang/Throwable -/
def RJ14 : String := "java/lang/Throwable"
def TJ14 : u_T := fun k => match k with
  | 0 => ("java/lang/Throwable", "cause", "Ljava/lang/Throwable;", false)
  | 1 => ("java/lang/Throwable", "stackTrace", "[Ljava/lang/StackTraceElement;", false)
  | 2 => ("java/lang/Throwable", "suppressedExceptions", "Ljava/util/List;", false)
  | 3 => ("java/lang/Throwable", "detailMessage", "Ljava/lang/String;", false)
  | _ => ("java/lang/Throwable", "backtrace", "Ljava/lang/Object;", false)
def tyJ14 : Nat → FieldType := fun k => match k with
  | 0 => .object "java/lang/Throwable"
  | 1 => .array (.object "java/lang/StackTraceElement")
  | 2 => .object "java/util/List"
  | 3 => .object "java/lang/String"
  | _ => .object "java/lang/Object"
abbrev wsJ140 : List Cond := u_ws RJ14 TJ14 5
theorem nmJ14 : ∀ a, a < 5 → ∀ b, b < 5 → a ≠ b → (TJ14 a).2.1 ≠ (TJ14 b).2.1 := by decide +kernel
theorem tyJ14_ok : ∀ k, k < 5 → parseFieldDescriptor (TJ14 k).2.2.1 = some (tyJ14 k) := by decide +kernel
theorem in_J14 : ∀ w ∈ wsJ140, w ∈ lw_all := lw_in wsJ140 [615, 617, 619, 621, 623] (by decide +kernel) (by decide +kernel)
/-! java/lang/Exception -/
def RJ15 : String := "java/lang/Exception"
/-! java/lang/RuntimeException -/
def RJ16 : String := "java/lang/RuntimeException"
/-! java/lang/IndexOutOfBoundsException -/
def RJ17 : String := "java/lang/IndexOutOfBoundsException"
def TJ17 : u_T := fun k => match k with
  | 0 => ("java/lang/Throwable", "cause", "Ljava/lang/Throwable;", false)
  | 1 => ("java/lang/Throwable", "stackTrace", "[Ljava/lang/StackTraceElement;", false)
  | 2 => ("java/lang/Throwable", "suppressedExceptions", "Ljava/util/List;", false)
  | 3 => ("java/lang/Throwable", "detailMessage", "Ljava/lang/String;", false)
  | 4 => ("java/lang/Throwable", "backtrace", "Ljava/lang/Object;", false)
  | _ => ("java/lang/Throwable", "depth", "I", false)
def tyJ17 : Nat → FieldType := fun k => match k with
  | 0 => .object "java/lang/Throwable"
  | 1 => .array (.object "java/lang/StackTraceElement")
  | 2 => .object "java/util/List"
  | 3 => .object "java/lang/String"
  | 4 => .object "java/lang/Object"
  | _ => .int
abbrev wsJ170 : List Cond := u_ws RJ17 TJ17 6
theorem nmJ17 : ∀ a, a < 6 → ∀ b, b < 6 → a ≠ b → (TJ17 a).2.1 ≠ (TJ17 b).2.1 := by decide +kernel
theorem tyJ17_ok : ∀ k, k < 6 → parseFieldDescriptor (TJ17 k).2.2.1 = some (tyJ17 k) := by decide +kernel
theorem in_J17 : ∀ w ∈ wsJ170, w ∈ lw_all := lw_in wsJ170 [614, 616, 618, 620, 622, 908] (by decide +kernel) (by decide +kernel)
/-! java/lang/AbstractStringBuilder -/
def RJ18 : String := "java/lang/AbstractStringBuilder"
/-! java/lang/StringBuilder -/
def RJ19 : String := "java/lang/StringBuilder"
def TJ19 : u_T := fun k => match k with
  | 0 => ("java/lang/AbstractStringBuilder", "value", "[B", false)
  | 1 => ("java/lang/AbstractStringBuilder", "coder", "B", false)
  | 2 => ("java/lang/AbstractStringBuilder", "maybeLatin1", "Z", false)
  | _ => ("java/lang/AbstractStringBuilder", "count", "I", false)
def tyJ19 : Nat → FieldType := fun k => match k with
  | 0 => .array .byte
  | 1 => .byte
  | 2 => .boolean
  | _ => .int
abbrev wsJ190 : List Cond := u_ws RJ19 TJ19 4
theorem nmJ19 : ∀ a, a < 4 → ∀ b, b < 4 → a ≠ b → (TJ19 a).2.1 ≠ (TJ19 b).2.1 := by decide +kernel
theorem tyJ19_ok : ∀ k, k < 4 → parseFieldDescriptor (TJ19 k).2.2.1 = some (tyJ19 k) := by decide +kernel
theorem in_J19 : ∀ w ∈ wsJ190, w ∈ lw_all := lw_in wsJ190 [673, 675, 677, 679] (by decide +kernel) (by decide +kernel)
/-! java/lang/String -/
def RJ20 : String := "java/lang/String"
def TJ20 : u_T := fun k => match k with
  | 0 => ("java/lang/String", "value", "[B", true)
  | 1 => ("java/lang/String", "coder", "B", true)
  | 2 => ("java/lang/String", "hash", "I", false)
  | _ => ("java/lang/String", "hashIsZero", "Z", false)
def tyJ20 : Nat → FieldType := fun k => match k with
  | 0 => .array .byte
  | 1 => .byte
  | 2 => .int
  | _ => .boolean
abbrev wsJ200 : List Cond := u_ws RJ20 TJ20 4
theorem nmJ20 : ∀ a, a < 4 → ∀ b, b < 4 → a ≠ b → (TJ20 a).2.1 ≠ (TJ20 b).2.1 := by decide +kernel
theorem tyJ20_ok : ∀ k, k < 4 → parseFieldDescriptor (TJ20 k).2.2.1 = some (tyJ20 k) := by decide +kernel
theorem in_J20 : ∀ w ∈ wsJ200, w ∈ lw_all := lw_in wsJ200 [878, 880, 882, 884] (by decide +kernel) (by decide +kernel)
/-! java/lang/StringUTF16 -/
def RJ21 : String := "java/lang/StringUTF16"
/-! jdk/internal/util/ArraysSupport -/
def RJ22 : String := "jdk/internal/util/ArraysSupport"
/-! java/util/Arrays -/
def RJ23 : String := "java/util/Arrays"
/-! jdk/internal/util/Preconditions -/
def RJ24 : String := "jdk/internal/util/Preconditions"
/-! java/lang/StringLatin1 -/
def RJ25 : String := "java/lang/StringLatin1"
/-! java/lang/Integer -/
def RJ26 : String := "java/lang/Integer"
/-! java/util/AbstractList$Itr -/
def RJ27 : String := "java/util/AbstractList$Itr"
/-! java/util/LinkedList$ListItr -/
def RJ28 : String := "java/util/LinkedList$ListItr"
def TJ28 : u_T := fun k => match k with
  | 0 => ("java/util/LinkedList$ListItr", "lastReturned", "Ljava/util/LinkedList$Node;", false)
  | 1 => ("java/util/LinkedList$ListItr", "next", "Ljava/util/LinkedList$Node;", false)
  | 2 => ("java/util/LinkedList$ListItr", "nextIndex", "I", false)
  | 3 => ("java/util/LinkedList$ListItr", "expectedModCount", "I", false)
  | _ => ("java/util/LinkedList$ListItr", "this$0", "Ljava/util/LinkedList;", true)
def tyJ28 : Nat → FieldType := fun k => match k with
  | 0 => .object "java/util/LinkedList$Node"
  | 1 => .object "java/util/LinkedList$Node"
  | 2 => .int
  | 3 => .int
  | _ => .object "java/util/LinkedList"
abbrev wsJ280 : List Cond := u_ws RJ28 TJ28 5
theorem nmJ28 : ∀ a, a < 5 → ∀ b, b < 5 → a ≠ b → (TJ28 a).2.1 ≠ (TJ28 b).2.1 := by decide +kernel
theorem tyJ28_ok : ∀ k, k < 5 → parseFieldDescriptor (TJ28 k).2.2.1 = some (tyJ28 k) := by decide +kernel
theorem in_J28 : ∀ w ∈ wsJ280, w ∈ lw_all := lw_in wsJ280 [960, 962, 964, 966, 968] (by decide +kernel) (by decide +kernel)
/-! java/util/NoSuchElementException -/
def RJ29 : String := "java/util/NoSuchElementException"
def TJ29 : u_T := fun k => match k with
  | 0 => ("java/lang/Throwable", "cause", "Ljava/lang/Throwable;", false)
  | 1 => ("java/lang/Throwable", "stackTrace", "[Ljava/lang/StackTraceElement;", false)
  | 2 => ("java/lang/Throwable", "suppressedExceptions", "Ljava/util/List;", false)
  | 3 => ("java/lang/Throwable", "detailMessage", "Ljava/lang/String;", false)
  | 4 => ("java/lang/Throwable", "backtrace", "Ljava/lang/Object;", false)
  | _ => ("java/lang/Throwable", "depth", "I", false)
def tyJ29 : Nat → FieldType := fun k => match k with
  | 0 => .object "java/lang/Throwable"
  | 1 => .array (.object "java/lang/StackTraceElement")
  | 2 => .object "java/util/List"
  | 3 => .object "java/lang/String"
  | 4 => .object "java/lang/Object"
  | _ => .int
abbrev wsJ290 : List Cond := u_ws RJ29 TJ29 6
theorem nmJ29 : ∀ a, a < 6 → ∀ b, b < 6 → a ≠ b → (TJ29 a).2.1 ≠ (TJ29 b).2.1 := by decide +kernel
theorem tyJ29_ok : ∀ k, k < 6 → parseFieldDescriptor (TJ29 k).2.2.1 = some (tyJ29 k) := by decide +kernel
theorem in_J29 : ∀ w ∈ wsJ290, w ∈ lw_all := lw_in wsJ290 [1020, 1021, 1022, 1023, 1024, 1073] (by decide +kernel) (by decide +kernel)
/-! java/util/LinkedList$Node -/
def RJ30 : String := "java/util/LinkedList$Node"
def TJ30 : u_T := fun k => match k with
  | 0 => ("java/util/LinkedList$Node", "item", "Ljava/lang/Object;", false)
  | 1 => ("java/util/LinkedList$Node", "next", "Ljava/util/LinkedList$Node;", false)
  | _ => ("java/util/LinkedList$Node", "prev", "Ljava/util/LinkedList$Node;", false)
def tyJ30 : Nat → FieldType := fun k => match k with
  | 0 => .object "java/lang/Object"
  | 1 => .object "java/util/LinkedList$Node"
  | _ => .object "java/util/LinkedList$Node"
abbrev wsJ300 : List Cond := u_ws RJ30 TJ30 3
theorem nmJ30 : ∀ a, a < 3 → ∀ b, b < 3 → a ≠ b → (TJ30 a).2.1 ≠ (TJ30 b).2.1 := by decide +kernel
theorem tyJ30_ok : ∀ k, k < 3 → parseFieldDescriptor (TJ30 k).2.2.1 = some (tyJ30 k) := by decide +kernel
theorem in_J30 : ∀ w ∈ wsJ300, w ∈ lw_all := lw_in wsJ300 [1237, 1239, 1241] (by decide +kernel) (by decide +kernel)
/-! java/lang/ArrayIndexOutOfBoundsException -/
def RJ31 : String := "java/lang/ArrayIndexOutOfBoundsException"
def TJ31 : u_T := fun k => match k with
  | 0 => ("java/lang/Throwable", "backtrace", "Ljava/lang/Object;", false)
  | 1 => ("java/lang/Throwable", "detailMessage", "Ljava/lang/String;", false)
  | 2 => ("java/lang/Throwable", "cause", "Ljava/lang/Throwable;", false)
  | 3 => ("java/lang/Throwable", "stackTrace", "[Ljava/lang/StackTraceElement;", false)
  | 4 => ("java/lang/Throwable", "depth", "I", false)
  | _ => ("java/lang/Throwable", "suppressedExceptions", "Ljava/util/List;", false)
def tyJ31 : Nat → FieldType := fun k => match k with
  | 0 => .object "java/lang/Object"
  | 1 => .object "java/lang/String"
  | 2 => .object "java/lang/Throwable"
  | 3 => .array (.object "java/lang/StackTraceElement")
  | 4 => .int
  | _ => .object "java/util/List"
abbrev wsJ310 : List Cond := u_ws RJ31 TJ31 6
theorem nmJ31 : ∀ a, a < 6 → ∀ b, b < 6 → a ≠ b → (TJ31 a).2.1 ≠ (TJ31 b).2.1 := by decide +kernel
theorem tyJ31_ok : ∀ k, k < 6 → parseFieldDescriptor (TJ31 k).2.2.1 = some (tyJ31 k) := by decide +kernel
theorem in_J31 : ∀ w ∈ wsJ310, w ∈ lw_all := lw_in wsJ310 [2328, 2329, 2330, 2331, 2332, 2333] (by decide +kernel) (by decide +kernel)
/-! java/util/ArrayDeque$DeqIterator -/
def RJ32 : String := "java/util/ArrayDeque$DeqIterator"
def TJ32 : u_T := fun k => match k with
  | 0 => ("java/util/ArrayDeque$DeqIterator", "cursor", "I", false)
  | 1 => ("java/util/ArrayDeque$DeqIterator", "remaining", "I", false)
  | 2 => ("java/util/ArrayDeque$DeqIterator", "lastRet", "I", false)
  | _ => ("java/util/ArrayDeque$DeqIterator", "this$0", "Ljava/util/ArrayDeque;", true)
def tyJ32 : Nat → FieldType := fun k => match k with
  | 0 => .int
  | 1 => .int
  | 2 => .int
  | _ => .object "java/util/ArrayDeque"
abbrev wsJ320 : List Cond := u_ws RJ32 TJ32 4
theorem nmJ32 : ∀ a, a < 4 → ∀ b, b < 4 → a ≠ b → (TJ32 a).2.1 ≠ (TJ32 b).2.1 := by decide +kernel
theorem tyJ32_ok : ∀ k, k < 4 → parseFieldDescriptor (TJ32 k).2.2.1 = some (tyJ32 k) := by decide +kernel
theorem in_J32 : ∀ w ∈ wsJ320, w ∈ lw_all := lw_in wsJ320 [1711, 1713, 1715, 1717] (by decide +kernel) (by decide +kernel)
/-! java/lang/IllegalStateException -/
def RJ33 : String := "java/lang/IllegalStateException"
def TJ33 : u_T := fun k => match k with
  | 0 => ("java/lang/Throwable", "cause", "Ljava/lang/Throwable;", false)
  | 1 => ("java/lang/Throwable", "stackTrace", "[Ljava/lang/StackTraceElement;", false)
  | 2 => ("java/lang/Throwable", "suppressedExceptions", "Ljava/util/List;", false)
  | 3 => ("java/lang/Throwable", "detailMessage", "Ljava/lang/String;", false)
  | 4 => ("java/lang/Throwable", "backtrace", "Ljava/lang/Object;", false)
  | _ => ("java/lang/Throwable", "depth", "I", false)
def tyJ33 : Nat → FieldType := fun k => match k with
  | 0 => .object "java/lang/Throwable"
  | 1 => .array (.object "java/lang/StackTraceElement")
  | 2 => .object "java/util/List"
  | 3 => .object "java/lang/String"
  | 4 => .object "java/lang/Object"
  | _ => .int
abbrev wsJ330 : List Cond := u_ws RJ33 TJ33 6
theorem nmJ33 : ∀ a, a < 6 → ∀ b, b < 6 → a ≠ b → (TJ33 a).2.1 ≠ (TJ33 b).2.1 := by decide +kernel
theorem tyJ33_ok : ∀ k, k < 6 → parseFieldDescriptor (TJ33 k).2.2.1 = some (tyJ33 k) := by decide +kernel
theorem in_J33 : ∀ w ∈ wsJ330, w ∈ lw_all := lw_in wsJ330 [1994, 1995, 1996, 1997, 1998, 2003] (by decide +kernel) (by decide +kernel)
/-! java/util/ConcurrentModificationException -/
def RJ34 : String := "java/util/ConcurrentModificationException"
def TJ34 : u_T := fun k => match k with
  | 0 => ("java/lang/Throwable", "cause", "Ljava/lang/Throwable;", false)
  | 1 => ("java/lang/Throwable", "stackTrace", "[Ljava/lang/StackTraceElement;", false)
  | 2 => ("java/lang/Throwable", "suppressedExceptions", "Ljava/util/List;", false)
  | 3 => ("java/lang/Throwable", "detailMessage", "Ljava/lang/String;", false)
  | 4 => ("java/lang/Throwable", "backtrace", "Ljava/lang/Object;", false)
  | _ => ("java/lang/Throwable", "depth", "I", false)
def tyJ34 : Nat → FieldType := fun k => match k with
  | 0 => .object "java/lang/Throwable"
  | 1 => .array (.object "java/lang/StackTraceElement")
  | 2 => .object "java/util/List"
  | 3 => .object "java/lang/String"
  | 4 => .object "java/lang/Object"
  | _ => .int
abbrev wsJ340 : List Cond := u_ws RJ34 TJ34 6
theorem nmJ34 : ∀ a, a < 6 → ∀ b, b < 6 → a ≠ b → (TJ34 a).2.1 ≠ (TJ34 b).2.1 := by decide +kernel
theorem tyJ34_ok : ∀ k, k < 6 → parseFieldDescriptor (TJ34 k).2.2.1 = some (tyJ34 k) := by decide +kernel
theorem in_J34 : ∀ w ∈ wsJ340, w ∈ lw_all := lw_in wsJ340 [2020, 2021, 2022, 2023, 2024, 2029] (by decide +kernel) (by decide +kernel)
/-! java/lang/Long -/
def RJ35 : String := "java/lang/Long"
/-! java/lang/Object -/
def RJ36 : String := "java/lang/Object"
/-! ExemptDeskLaw -/
def RX0 : String := "ExemptDeskLaw"
/-! ExemptDesk -/
def RX1 : String := "ExemptDesk"
def TX1 : u_T := fun k => match k with
  | 0 => ("ExemptDesk", "ways", "Ljava/util/List;", true)
  | 1 => ("ExemptDesk", "methods", "Ljava/util/List;", true)
  | 2 => ("ExemptDesk", "tape", "[B", true)
  | 3 => ("ExemptDesk", "reader", "LExemptDesk$Reader;", true)
  | 4 => ("ExemptDesk", "told", "LExemptDesk$Text;", false)
  | 5 => ("ExemptDesk", "books", "LExemptDesk$Books;", false)
  | 6 => ("ExemptDesk", "aside", "LExemptDesk$Books;", true)
  | 7 => ("ExemptDesk", "pasts", "Ljava/util/LinkedList;", true)
  | 8 => ("ExemptDesk", "image", "LExemptDesk$Books;", false)
  | 9 => ("ExemptDesk", "both", "LExemptDesk$Sums;", true)
  | 10 => ("ExemptDesk", "taped", "I", false)
  | 11 => ("ExemptDesk", "faultKind", "I", false)
  | 12 => ("ExemptDesk", "faultPlace", "I", false)
  | _ => ("ExemptDesk", "drawn", "I", false)
def tyX1 : Nat → FieldType := fun k => match k with
  | 0 => .object "java/util/List"
  | 1 => .object "java/util/List"
  | 2 => .array .byte
  | 3 => .object "ExemptDesk$Reader"
  | 4 => .object "ExemptDesk$Text"
  | 5 => .object "ExemptDesk$Books"
  | 6 => .object "ExemptDesk$Books"
  | 7 => .object "java/util/LinkedList"
  | 8 => .object "ExemptDesk$Books"
  | 9 => .object "ExemptDesk$Sums"
  | 10 => .int
  | 11 => .int
  | 12 => .int
  | _ => .int
abbrev wsX10 : List Cond := u_ws RX1 TX1 14
theorem nmX1 : ∀ a, a < 14 → ∀ b, b < 14 → a ≠ b → (TX1 a).2.1 ≠ (TX1 b).2.1 := by decide +kernel
theorem tyX1_ok : ∀ k, k < 14 → parseFieldDescriptor (TX1 k).2.2.1 = some (tyX1 k) := by decide +kernel
theorem in_X1 : ∀ w ∈ wsX10, w ∈ lw_all := lw_in wsX10 [1266, 1268, 1270, 1272, 1274, 1276, 1278, 1280, 1282, 1284, 1286, 1288, 1290, 1292] (by decide +kernel) (by decide +kernel)
/-! ExemptDesk$Way -/
def RX2 : String := "ExemptDesk$Way"
def TX2 : u_T := fun k => match k with
  | _ => ("ExemptDesk$Way", "cut", "LExemptDesk$Cut;", true)
def tyX2 : Nat → FieldType := fun k => match k with
  | _ => .object "ExemptDesk$Cut"
abbrev wsX20 : List Cond := u_ws RX2 TX2 1
theorem nmX2 : ∀ a, a < 1 → ∀ b, b < 1 → a ≠ b → (TX2 a).2.1 ≠ (TX2 b).2.1 := by decide +kernel
theorem tyX2_ok : ∀ k, k < 1 → parseFieldDescriptor (TX2 k).2.2.1 = some (tyX2 k) := by decide +kernel
theorem in_X2 : ∀ w ∈ wsX20, w ∈ lw_all := lw_in wsX20 [201] (by decide +kernel) (by decide +kernel)
/-! ExemptDesk$Method -/
def RX3 : String := "ExemptDesk$Method"
def TX3 : u_T := fun k => match k with
  | 0 => ("ExemptDesk$Method", "own", "LExemptDesk$Part;", true)
  | _ => ("ExemptDesk$Method", "all", "LExemptDesk$Part;", true)
def tyX3 : Nat → FieldType := fun k => match k with
  | 0 => .object "ExemptDesk$Part"
  | _ => .object "ExemptDesk$Part"
abbrev wsX30 : List Cond := u_ws RX3 TX3 2
theorem nmX3 : ∀ a, a < 2 → ∀ b, b < 2 → a ≠ b → (TX3 a).2.1 ≠ (TX3 b).2.1 := by decide +kernel
theorem tyX3_ok : ∀ k, k < 2 → parseFieldDescriptor (TX3 k).2.2.1 = some (tyX3 k) := by decide +kernel
theorem in_X3 : ∀ w ∈ wsX30, w ∈ lw_all := lw_in wsX30 [315, 317] (by decide +kernel) (by decide +kernel)
/-! ExemptDesk$Reader -/
def RX4 : String := "ExemptDesk$Reader"
def TX4 : u_T := fun k => match k with
  | 0 => ("ExemptDesk$Reader", "at", "I", false)
  | 1 => ("ExemptDesk$Reader", "length", "I", false)
  | 2 => ("ExemptDesk$Reader", "place", "I", false)
  | 3 => ("ExemptDesk$Reader", "sort", "I", false)
  | 4 => ("ExemptDesk$Reader", "value", "I", false)
  | 5 => ("ExemptDesk$Reader", "made", "LExemptDesk$Text;", false)
  | _ => ("ExemptDesk$Reader", "this$0", "LExemptDesk;", true)
def tyX4 : Nat → FieldType := fun k => match k with
  | 0 => .int
  | 1 => .int
  | 2 => .int
  | 3 => .int
  | 4 => .int
  | 5 => .object "ExemptDesk$Text"
  | _ => .object "ExemptDesk"
abbrev wsX40 : List Cond := u_ws RX4 TX4 7
theorem nmX4 : ∀ a, a < 7 → ∀ b, b < 7 → a ≠ b → (TX4 a).2.1 ≠ (TX4 b).2.1 := by decide +kernel
theorem tyX4_ok : ∀ k, k < 7 → parseFieldDescriptor (TX4 k).2.2.1 = some (tyX4 k) := by decide +kernel
theorem in_X4 : ∀ w ∈ wsX40, w ∈ lw_all := lw_in wsX40 [333, 335, 337, 339, 341, 343, 345] (by decide +kernel) (by decide +kernel)
/-! ExemptDesk$Text -/
def RX5 : String := "ExemptDesk$Text"
def TX5 : u_T := fun k => match k with
  | 0 => ("ExemptDesk$Text", "traders", "Ljava/util/LinkedList;", true)
  | 1 => ("ExemptDesk$Text", "sales", "Ljava/util/LinkedList;", true)
  | 2 => ("ExemptDesk$Text", "buys", "Ljava/util/LinkedList;", true)
  | 3 => ("ExemptDesk$Text", "assets", "Ljava/util/LinkedList;", true)
  | 4 => ("ExemptDesk$Text", "way", "I", false)
  | 5 => ("ExemptDesk$Text", "step", "I", false)
  | 6 => ("ExemptDesk$Text", "limit", "I", false)
  | 7 => ("ExemptDesk$Text", "seed", "I", false)
  | _ => ("ExemptDesk$Text", "lines", "I", false)
def tyX5 : Nat → FieldType := fun k => match k with
  | 0 => .object "java/util/LinkedList"
  | 1 => .object "java/util/LinkedList"
  | 2 => .object "java/util/LinkedList"
  | 3 => .object "java/util/LinkedList"
  | 4 => .int
  | 5 => .int
  | 6 => .int
  | 7 => .int
  | _ => .int
abbrev wsX50 : List Cond := u_ws RX5 TX5 9
theorem nmX5 : ∀ a, a < 9 → ∀ b, b < 9 → a ≠ b → (TX5 a).2.1 ≠ (TX5 b).2.1 := by decide +kernel
theorem tyX5_ok : ∀ k, k < 9 → parseFieldDescriptor (TX5 k).2.2.1 = some (tyX5 k) := by decide +kernel
theorem in_X5 : ∀ w ∈ wsX50, w ∈ lw_all := lw_in wsX50 [416, 418, 420, 422, 424, 426, 428, 430, 432] (by decide +kernel) (by decide +kernel)
/-! ExemptDesk$Books -/
def RX6 : String := "ExemptDesk$Books"
def TX6 : u_T := fun k => match k with
  | 0 => ("ExemptDesk$Books", "sums", "[[LExemptDesk$Sums;", true)
  | 1 => ("ExemptDesk$Books", "provisional", "[[I", true)
  | 2 => ("ExemptDesk$Books", "recovered", "[[I", true)
  | 3 => ("ExemptDesk$Books", "annual", "[[I", true)
  | 4 => ("ExemptDesk$Books", "trued", "[[I", true)
  | 5 => ("ExemptDesk$Books", "own", "[I", true)
  | 6 => ("ExemptDesk$Books", "all", "[I", true)
  | 7 => ("ExemptDesk$Books", "totals", "[[I", true)
  | 8 => ("ExemptDesk$Books", "assets", "Ljava/util/LinkedList;", true)
  | 9 => ("ExemptDesk$Books", "standing", "Ljava/util/LinkedList;", true)
  | 10 => ("ExemptDesk$Books", "booked", "Ljava/util/ArrayDeque;", true)
  | 11 => ("ExemptDesk$Books", "shut", "Ljava/util/BitSet;", true)
  | 12 => ("ExemptDesk$Books", "year", "LExemptDesk$Sums;", true)
  | 13 => ("ExemptDesk$Books", "now", "I", false)
  | 14 => ("ExemptDesk$Books", "entries", "I", false)
  | _ => ("ExemptDesk$Books", "this$0", "LExemptDesk;", true)
def tyX6 : Nat → FieldType := fun k => match k with
  | 0 => .array (.array (.object "ExemptDesk$Sums"))
  | 1 => .array (.array .int)
  | 2 => .array (.array .int)
  | 3 => .array (.array .int)
  | 4 => .array (.array .int)
  | 5 => .array .int
  | 6 => .array .int
  | 7 => .array (.array .int)
  | 8 => .object "java/util/LinkedList"
  | 9 => .object "java/util/LinkedList"
  | 10 => .object "java/util/ArrayDeque"
  | 11 => .object "java/util/BitSet"
  | 12 => .object "ExemptDesk$Sums"
  | 13 => .int
  | 14 => .int
  | _ => .object "ExemptDesk"
abbrev wsX60 : List Cond := u_ws RX6 TX6 16
theorem nmX6 : ∀ a, a < 16 → ∀ b, b < 16 → a ≠ b → (TX6 a).2.1 ≠ (TX6 b).2.1 := by decide +kernel
theorem tyX6_ok : ∀ k, k < 16 → parseFieldDescriptor (TX6 k).2.2.1 = some (tyX6 k) := by decide +kernel
theorem in_X6 : ∀ w ∈ wsX60, w ∈ lw_all := lw_in wsX60 [542, 544, 546, 548, 550, 552, 554, 556, 558, 560, 562, 564, 566, 568, 570, 572] (by decide +kernel) (by decide +kernel)
/-! ExemptDesk$Sums -/
def RX7 : String := "ExemptDesk$Sums"
def TX7 : u_T := fun k => match k with
  | _ => ("ExemptDesk$Sums", "of", "[J", true)
def tyX7 : Nat → FieldType := fun k => match k with
  | _ => .array .long
abbrev wsX70 : List Cond := u_ws RX7 TX7 1
theorem nmX7 : ∀ a, a < 1 → ∀ b, b < 1 → a ≠ b → (TX7 a).2.1 ≠ (TX7 b).2.1 := by decide +kernel
theorem tyX7_ok : ∀ k, k < 1 → parseFieldDescriptor (TX7 k).2.2.1 = some (tyX7 k) := by decide +kernel
theorem in_X7 : ∀ w ∈ wsX70, w ∈ lw_all := lw_in wsX70 [510] (by decide +kernel) (by decide +kernel)
/-! ExemptDesk$Asset -/
def RX8 : String := "ExemptDesk$Asset"
def TX8 : u_T := fun k => match k with
  | 0 => ("ExemptDesk$Asset", "number", "I", true)
  | 1 => ("ExemptDesk$Asset", "tax", "I", true)
  | 2 => ("ExemptDesk$Asset", "intervals", "I", true)
  | 3 => ("ExemptDesk$Asset", "bought", "I", true)
  | 4 => ("ExemptDesk$Asset", "first", "I", true)
  | 5 => ("ExemptDesk$Asset", "owner", "[I", true)
  | 6 => ("ExemptDesk$Asset", "worth", "[I", true)
  | 7 => ("ExemptDesk$Asset", "adjusted", "[I", true)
  | 8 => ("ExemptDesk$Asset", "use", "I", false)
  | 9 => ("ExemptDesk$Asset", "base", "I", false)
  | 10 => ("ExemptDesk$Asset", "sold", "I", false)
  | 11 => ("ExemptDesk$Asset", "cap", "I", false)
  | 12 => ("ExemptDesk$Asset", "nextOwner", "I", false)
  | 13 => ("ExemptDesk$Asset", "last", "I", false)
  | 14 => ("ExemptDesk$Asset", "through", "I", false)
  | 15 => ("ExemptDesk$Asset", "uses", "[I", true)
  | _ => ("ExemptDesk$Asset", "isShut", "Z", false)
def tyX8 : Nat → FieldType := fun k => match k with
  | 0 => .int
  | 1 => .int
  | 2 => .int
  | 3 => .int
  | 4 => .int
  | 5 => .array .int
  | 6 => .array .int
  | 7 => .array .int
  | 8 => .int
  | 9 => .int
  | 10 => .int
  | 11 => .int
  | 12 => .int
  | 13 => .int
  | 14 => .int
  | 15 => .array .int
  | _ => .boolean
abbrev wsX80 : List Cond := u_ws RX8 TX8 17
theorem nmX8 : ∀ a, a < 17 → ∀ b, b < 17 → a ≠ b → (TX8 a).2.1 ≠ (TX8 b).2.1 := by decide +kernel
theorem tyX8_ok : ∀ k, k < 17 → parseFieldDescriptor (TX8 k).2.2.1 = some (tyX8 k) := by decide +kernel
theorem in_X8 : ∀ w ∈ wsX80, w ∈ lw_all := lw_in wsX80 [1176, 1178, 1180, 1182, 1184, 1186, 1188, 1190, 1192, 1194, 1196, 1198, 1200, 1202, 1204, 1206, 1208] (by decide +kernel) (by decide +kernel)
/-! ExemptDeskModel -/
def RX9 : String := "ExemptDeskModel"
def TX9 : u_T := fun k => match k with
  | 0 => ("ExemptDeskModel", "tape", "[I", true)
  | 1 => ("ExemptDeskModel", "tapeSize", "I", false)
  | 2 => ("ExemptDeskModel", "thrown", "I", false)
  | 3 => ("ExemptDeskModel", "words", "[I", true)
  | 4 => ("ExemptDeskModel", "fault", "I", false)
  | 5 => ("ExemptDeskModel", "faultPlace", "I", false)
  | 6 => ("ExemptDeskModel", "stop", "I", false)
  | 7 => ("ExemptDeskModel", "next", "I", false)
  | 8 => ("ExemptDeskModel", "kind", "I", false)
  | 9 => ("ExemptDeskModel", "which", "I", false)
  | 10 => ("ExemptDeskModel", "at", "I", false)
  | 11 => ("ExemptDeskModel", "traders", "I", false)
  | 12 => ("ExemptDeskModel", "tradersRead", "I", false)
  | 13 => ("ExemptDeskModel", "trader", "[I", true)
  | 14 => ("ExemptDeskModel", "sales", "[I", true)
  | 15 => ("ExemptDeskModel", "buys", "[I", true)
  | 16 => ("ExemptDeskModel", "assets", "[I", true)
  | 17 => ("ExemptDeskModel", "told", "[I", true)
  | 18 => ("ExemptDeskModel", "toldWords", "I", false)
  | 19 => ("ExemptDeskModel", "got", "I", false)
  | 20 => ("ExemptDeskModel", "all", "[I", true)
  | 21 => ("ExemptDeskModel", "bank", "I", false)
  | 22 => ("ExemptDeskModel", "undos", "I", false)
  | 23 => ("ExemptDeskModel", "isImage", "Z", false)
  | 24 => ("ExemptDeskModel", "sum", "[J", true)
  | 25 => ("ExemptDeskModel", "headsOwn", "J", false)
  | 26 => ("ExemptDeskModel", "headsAll", "J", false)
  | 27 => ("ExemptDeskModel", "isSmall", "Z", false)
  | _ => ("ExemptDeskModel", "drawn", "J", false)
def tyX9 : Nat → FieldType := fun k => match k with
  | 0 => .array .int
  | 1 => .int
  | 2 => .int
  | 3 => .array .int
  | 4 => .int
  | 5 => .int
  | 6 => .int
  | 7 => .int
  | 8 => .int
  | 9 => .int
  | 10 => .int
  | 11 => .int
  | 12 => .int
  | 13 => .array .int
  | 14 => .array .int
  | 15 => .array .int
  | 16 => .array .int
  | 17 => .array .int
  | 18 => .int
  | 19 => .int
  | 20 => .array .int
  | 21 => .int
  | 22 => .int
  | 23 => .boolean
  | 24 => .array .long
  | 25 => .long
  | 26 => .long
  | 27 => .boolean
  | _ => .long
abbrev wsX90 : List Cond := u_ws RX9 TX9 29
theorem nmX9 : ∀ a, a < 29 → ∀ b, b < 29 → a ≠ b → (TX9 a).2.1 ≠ (TX9 b).2.1 := by decide +kernel
theorem tyX9_ok : ∀ k, k < 29 → parseFieldDescriptor (TX9 k).2.2.1 = some (tyX9 k) := by decide +kernel
theorem in_X9 : ∀ w ∈ wsX90, w ∈ lw_all := lw_in wsX90 [2438, 2440, 2442, 2444, 2446, 2448, 2450, 2452, 2454, 2456, 2458, 2460, 2462, 2464, 2466, 2468, 2470, 2472, 2474, 2476, 2478, 2480, 2482, 2484, 2486, 2488, 2490, 2492, 2494] (by decide +kernel) (by decide +kernel)
/-! ExemptDesk$Wrong -/
def RX10 : String := "ExemptDesk$Wrong"
def TX10 : u_T := fun k => match k with
  | 0 => ("java/lang/Throwable", "cause", "Ljava/lang/Throwable;", false)
  | 1 => ("java/lang/Throwable", "stackTrace", "[Ljava/lang/StackTraceElement;", false)
  | 2 => ("java/lang/Throwable", "suppressedExceptions", "Ljava/util/List;", false)
  | 3 => ("java/lang/Throwable", "detailMessage", "Ljava/lang/String;", false)
  | 4 => ("java/lang/Throwable", "backtrace", "Ljava/lang/Object;", false)
  | 5 => ("java/lang/Throwable", "depth", "I", false)
  | 6 => ("ExemptDesk$Wrong", "kind", "I", true)
  | _ => ("ExemptDesk$Wrong", "place", "I", true)
def tyX10 : Nat → FieldType := fun k => match k with
  | 0 => .object "java/lang/Throwable"
  | 1 => .array (.object "java/lang/StackTraceElement")
  | 2 => .object "java/util/List"
  | 3 => .object "java/lang/String"
  | 4 => .object "java/lang/Object"
  | 5 => .int
  | 6 => .int
  | _ => .int
abbrev wsX100 : List Cond := u_ws RX10 TX10 8
theorem nmX10 : ∀ a, a < 8 → ∀ b, b < 8 → a ≠ b → (TX10 a).2.1 ≠ (TX10 b).2.1 := by decide +kernel
theorem tyX10_ok : ∀ k, k < 8 → parseFieldDescriptor (TX10 k).2.2.1 = some (tyX10 k) := by decide +kernel
theorem in_X10 : ∀ w ∈ wsX100, w ∈ lw_all := lw_in wsX100 [1378, 1379, 1380, 1381, 1382, 1400, 1396, 1398] (by decide +kernel) (by decide +kernel)
/-! ExemptDesk$Trader -/
def RX11 : String := "ExemptDesk$Trader"
def TX11 : u_T := fun k => match k with
  | 0 => ("ExemptDesk$Trader", "name", "I", true)
  | 1 => ("ExemptDesk$Trader", "method", "I", true)
  | 2 => ("ExemptDesk$Trader", "basis", "I", true)
  | 3 => ("ExemptDesk$Trader", "own", "I", false)
  | 4 => ("ExemptDesk$Trader", "all", "I", false)
  | _ => ("ExemptDesk$Trader", "start", "I", false)
def tyX11 : Nat → FieldType := fun k => match k with
  | 0 => .int
  | 1 => .int
  | 2 => .int
  | 3 => .int
  | 4 => .int
  | _ => .int
abbrev wsX110 : List Cond := u_ws RX11 TX11 6
theorem nmX11 : ∀ a, a < 6 → ∀ b, b < 6 → a ≠ b → (TX11 a).2.1 ≠ (TX11 b).2.1 := by decide +kernel
theorem tyX11_ok : ∀ k, k < 6 → parseFieldDescriptor (TX11 k).2.2.1 = some (tyX11 k) := by decide +kernel
theorem in_X11 : ∀ w ∈ wsX110, w ∈ lw_all := lw_in wsX110 [1451, 1453, 1455, 1457, 1459, 1461] (by decide +kernel) (by decide +kernel)
/-! ExemptDesk$Told -/
def RX12 : String := "ExemptDesk$Told"
def TX12 : u_T := fun k => match k with
  | 0 => ("ExemptDesk$Told", "trader", "I", true)
  | 1 => ("ExemptDesk$Told", "quarter", "I", true)
  | 2 => ("ExemptDesk$Told", "kind", "I", true)
  | _ => ("ExemptDesk$Told", "amount", "I", true)
def tyX12 : Nat → FieldType := fun k => match k with
  | 0 => .int
  | 1 => .int
  | 2 => .int
  | _ => .int
abbrev wsX120 : List Cond := u_ws RX12 TX12 4
theorem nmX12 : ∀ a, a < 4 → ∀ b, b < 4 → a ≠ b → (TX12 a).2.1 ≠ (TX12 b).2.1 := by decide +kernel
theorem tyX12_ok : ∀ k, k < 4 → parseFieldDescriptor (TX12 k).2.2.1 = some (tyX12 k) := by decide +kernel
theorem in_X12 : ∀ w ∈ wsX120, w ∈ lw_all := lw_in wsX120 [1517, 1519, 1521, 1523] (by decide +kernel) (by decide +kernel)
/-! ExemptDesk$ToldAsset -/
def RX13 : String := "ExemptDesk$ToldAsset"
def TX13 : u_T := fun k => match k with
  | 0 => ("ExemptDesk$Told", "trader", "I", true)
  | 1 => ("ExemptDesk$Told", "quarter", "I", true)
  | 2 => ("ExemptDesk$Told", "kind", "I", true)
  | 3 => ("ExemptDesk$Told", "amount", "I", true)
  | _ => ("ExemptDesk$ToldAsset", "intervals", "I", true)
def tyX13 : Nat → FieldType := fun k => match k with
  | 0 => .int
  | 1 => .int
  | 2 => .int
  | 3 => .int
  | _ => .int
abbrev wsX130 : List Cond := u_ws RX13 TX13 5
theorem nmX13 : ∀ a, a < 5 → ∀ b, b < 5 → a ≠ b → (TX13 a).2.1 ≠ (TX13 b).2.1 := by decide +kernel
theorem tyX13_ok : ∀ k, k < 5 → parseFieldDescriptor (TX13 k).2.2.1 = some (tyX13 k) := by decide +kernel
theorem in_X13 : ∀ w ∈ wsX130, w ∈ lw_all := lw_in wsX130 [1543, 1544, 1545, 1546, 1541] (by decide +kernel) (by decide +kernel)
/-! ExemptDesk$Entry -/
def RX14 : String := "ExemptDesk$Entry"
def TX14 : u_T := fun k => match k with
  | 0 => ("ExemptDesk$Entry", "quarter", "I", true)
  | 1 => ("ExemptDesk$Entry", "trader", "I", true)
  | 2 => ("ExemptDesk$Entry", "sort", "I", true)
  | 3 => ("ExemptDesk$Entry", "amount", "I", true)
  | _ => ("ExemptDesk$Entry", "asset", "I", true)
def tyX14 : Nat → FieldType := fun k => match k with
  | 0 => .int
  | 1 => .int
  | 2 => .int
  | 3 => .int
  | _ => .int
abbrev wsX140 : List Cond := u_ws RX14 TX14 5
theorem nmX14 : ∀ a, a < 5 → ∀ b, b < 5 → a ≠ b → (TX14 a).2.1 ≠ (TX14 b).2.1 := by decide +kernel
theorem tyX14_ok : ∀ k, k < 5 → parseFieldDescriptor (TX14 k).2.2.1 = some (tyX14 k) := by decide +kernel
theorem in_X14 : ∀ w ∈ wsX140, w ∈ lw_all := lw_in wsX140 [1907, 1909, 1911, 1913, 1915] (by decide +kernel) (by decide +kernel)
/-- the classes whose objects the heap holds: an object names its class by its place here -/
abbrev vwCl : List vw_C := [(RJ7, TJ7, 2), (RJ8, TJ8, 2), (RJ11, TJ11, 4), (RJ12, TJ12, 3), (RJ13, TJ13, 3), (RJ14, TJ14, 5), (RJ17, TJ17, 6), (RJ19, TJ19, 4), (RJ20, TJ20, 4), (RJ28, TJ28, 5), (RJ29, TJ29, 6), (RJ30, TJ30, 3), (RJ31, TJ31, 6), (RJ32, TJ32, 4), (RJ33, TJ33, 6), (RJ34, TJ34, 6), (RX1, TX1, 14), (RX2, TX2, 1), (RX3, TX3, 2), (RX4, TX4, 7), (RX5, TX5, 9), (RX6, TX6, 16), (RX7, TX7, 1), (RX8, TX8, 17), (RX9, TX9, 29), (RX10, TX10, 8), (RX11, TX11, 6), (RX12, TX12, 4), (RX13, TX13, 5), (RX14, TX14, 5)]
/-- what is known of a class of the list -/
def gCls (ci : Nat) (C : String) (T : u_T) (N : Nat) (ty : Nat → FieldType) : Prop := vwCl[ci]? = some (C, T, N) ∧ (∀ w ∈ u_ws C T N, w ∈ lw_all) ∧ (∀ k, k < N → parseFieldDescriptor (T k).2.2.1 = some (ty k)) ∧ (∀ a, a < N → ∀ b, b < N → a ≠ b → (T a).2.1 ≠ (T b).2.1)
theorem gcJ7 : gCls 0 RJ7 TJ7 2 tyJ7 := ⟨rfl, in_J7, tyJ7_ok, nmJ7⟩
theorem gcJ8 : gCls 1 RJ8 TJ8 2 tyJ8 := ⟨rfl, in_J8, tyJ8_ok, nmJ8⟩
theorem gcJ11 : gCls 2 RJ11 TJ11 4 tyJ11 := ⟨rfl, in_J11, tyJ11_ok, nmJ11⟩
theorem gcJ12 : gCls 3 RJ12 TJ12 3 tyJ12 := ⟨rfl, in_J12, tyJ12_ok, nmJ12⟩
theorem gcJ13 : gCls 4 RJ13 TJ13 3 tyJ13 := ⟨rfl, in_J13, tyJ13_ok, nmJ13⟩
theorem gcJ14 : gCls 5 RJ14 TJ14 5 tyJ14 := ⟨rfl, in_J14, tyJ14_ok, nmJ14⟩
theorem gcJ17 : gCls 6 RJ17 TJ17 6 tyJ17 := ⟨rfl, in_J17, tyJ17_ok, nmJ17⟩
theorem gcJ19 : gCls 7 RJ19 TJ19 4 tyJ19 := ⟨rfl, in_J19, tyJ19_ok, nmJ19⟩
theorem gcJ20 : gCls 8 RJ20 TJ20 4 tyJ20 := ⟨rfl, in_J20, tyJ20_ok, nmJ20⟩
theorem gcJ28 : gCls 9 RJ28 TJ28 5 tyJ28 := ⟨rfl, in_J28, tyJ28_ok, nmJ28⟩
theorem gcJ29 : gCls 10 RJ29 TJ29 6 tyJ29 := ⟨rfl, in_J29, tyJ29_ok, nmJ29⟩
theorem gcJ30 : gCls 11 RJ30 TJ30 3 tyJ30 := ⟨rfl, in_J30, tyJ30_ok, nmJ30⟩
theorem gcJ31 : gCls 12 RJ31 TJ31 6 tyJ31 := ⟨rfl, in_J31, tyJ31_ok, nmJ31⟩
theorem gcJ32 : gCls 13 RJ32 TJ32 4 tyJ32 := ⟨rfl, in_J32, tyJ32_ok, nmJ32⟩
theorem gcJ33 : gCls 14 RJ33 TJ33 6 tyJ33 := ⟨rfl, in_J33, tyJ33_ok, nmJ33⟩
theorem gcJ34 : gCls 15 RJ34 TJ34 6 tyJ34 := ⟨rfl, in_J34, tyJ34_ok, nmJ34⟩
theorem gcX1 : gCls 16 RX1 TX1 14 tyX1 := ⟨rfl, in_X1, tyX1_ok, nmX1⟩
theorem gcX2 : gCls 17 RX2 TX2 1 tyX2 := ⟨rfl, in_X2, tyX2_ok, nmX2⟩
theorem gcX3 : gCls 18 RX3 TX3 2 tyX3 := ⟨rfl, in_X3, tyX3_ok, nmX3⟩
theorem gcX4 : gCls 19 RX4 TX4 7 tyX4 := ⟨rfl, in_X4, tyX4_ok, nmX4⟩
theorem gcX5 : gCls 20 RX5 TX5 9 tyX5 := ⟨rfl, in_X5, tyX5_ok, nmX5⟩
theorem gcX6 : gCls 21 RX6 TX6 16 tyX6 := ⟨rfl, in_X6, tyX6_ok, nmX6⟩
theorem gcX7 : gCls 22 RX7 TX7 1 tyX7 := ⟨rfl, in_X7, tyX7_ok, nmX7⟩
theorem gcX8 : gCls 23 RX8 TX8 17 tyX8 := ⟨rfl, in_X8, tyX8_ok, nmX8⟩
theorem gcX9 : gCls 24 RX9 TX9 29 tyX9 := ⟨rfl, in_X9, tyX9_ok, nmX9⟩
theorem gcX10 : gCls 25 RX10 TX10 8 tyX10 := ⟨rfl, in_X10, tyX10_ok, nmX10⟩
theorem gcX11 : gCls 26 RX11 TX11 6 tyX11 := ⟨rfl, in_X11, tyX11_ok, nmX11⟩
theorem gcX12 : gCls 27 RX12 TX12 4 tyX12 := ⟨rfl, in_X12, tyX12_ok, nmX12⟩
theorem gcX13 : gCls 28 RX13 TX13 5 tyX13 := ⟨rfl, in_X13, tyX13_ok, nmX13⟩
theorem gcX14 : gCls 29 RX14 TX14 5 tyX14 := ⟨rfl, in_X14, tyX14_ok, nmX14⟩
