/-! heads of all classes: names and fields -/
/-! DialMenus -/
set_option maxRecDepth 100000
def RX0 : String := "DialMenus"
def TX0 : u_T := fun k => match k with
  | 0 => ("DialMenus", "digitOf", "[I", true)
  | 1 => ("DialMenus", "names", "Ljava/util/ArrayList;", true)
  | 2 => ("DialMenus", "lists", "I", false)
  | 3 => ("DialMenus", "dials", "I", false)
  | 4 => ("DialMenus", "gone", "I", false)
  | 5 => ("DialMenus", "first", "Ljava/util/List;", true)
  | 6 => ("DialMenus", "page", "Ljava/lang/StringBuilder;", true)
  | 7 => ("DialMenus", "typed", "Ljava/util/LinkedList;", true)
  | 8 => ("DialMenus", "spellings", "[I", true)
  | 9 => ("DialMenus", "fewest", "[I", true)
  | 10 => ("DialMenus", "loose", "[I", true)
  | 11 => ("DialMenus", "sizes", "[I", true)
  | 12 => ("DialMenus", "pieceAt", "[I", true)
  | 13 => ("DialMenus", "menu", "LDialMenus$Menu;", false)
  | 14 => ("DialMenus", "width", "I", false)
  | 15 => ("DialMenus", "builds", "I", false)
  | 16 => ("DialMenus", "least", "[[I", true)
  | _ => ("DialMenus", "parted", "[[[I", true)
def tyX0 : Nat → FieldType := fun k => match k with
  | 0 => .array .int
  | 1 => .object "java/util/ArrayList"
  | 2 => .int
  | 3 => .int
  | 4 => .int
  | 5 => .object "java/util/List"
  | 6 => .object "java/lang/StringBuilder"
  | 7 => .object "java/util/LinkedList"
  | 8 => .array .int
  | 9 => .array .int
  | 10 => .array .int
  | 11 => .array .int
  | 12 => .array .int
  | 13 => .object "DialMenus$Menu"
  | 14 => .int
  | 15 => .int
  | 16 => .array (.array .int)
  | _ => .array (.array (.array .int))
abbrev wsX00 : List Cond := u_ws RX0 TX0 18
set_option maxRecDepth 100000 in
theorem nmX0 : ∀ a, a < 18 → ∀ b, b < 18 → a ≠ b → (TX0 a).2.1 ≠ (TX0 b).2.1 := by decide +kernel
set_option maxRecDepth 100000 in
theorem tyX0_ok : ∀ k, k < 18 → parseFieldDescriptor (TX0 k).2.2.1 = some (tyX0 k) := by decide +kernel
/-! DialMenusModel -/
set_option maxRecDepth 100000
def RX1 : String := "DialMenusModel"
def TX1 : u_T := fun k => match k with
  | 0 => ("DialMenusModel", "pageLength", "I", false)
  | 1 => ("DialMenusModel", "page", "[I", true)
  | 2 => ("DialMenusModel", "names", "I", false)
  | 3 => ("DialMenusModel", "length", "[I", true)
  | 4 => ("DialMenusModel", "letters", "[I", true)
  | 5 => ("DialMenusModel", "uses", "[I", true)
  | 6 => ("DialMenusModel", "listsRead", "I", false)
  | 7 => ("DialMenusModel", "dialsRead", "I", false)
  | 8 => ("DialMenusModel", "gone", "I", false)
  | 9 => ("DialMenusModel", "digitOf", "[I", true)
  | 10 => ("DialMenusModel", "typedMany", "I", false)
  | 11 => ("DialMenusModel", "typedAt", "[I", true)
  | 12 => ("DialMenusModel", "width", "I", false)
  | 13 => ("DialMenusModel", "pathLength", "[I", true)
  | 14 => ("DialMenusModel", "steps", "[I", true)
  | 15 => ("DialMenusModel", "built", "I", false)
  | 16 => ("DialMenusModel", "stage", "I", false)
  | 17 => ("DialMenusModel", "newNames", "I", false)
  | 18 => ("DialMenusModel", "newLength", "[I", true)
  | 19 => ("DialMenusModel", "newLetters", "[I", true)
  | 20 => ("DialMenusModel", "newUses", "[I", true)
  | 21 => ("DialMenusModel", "newDigit", "[I", true)
  | 22 => ("DialMenusModel", "ways", "[I", true)
  | 23 => ("DialMenusModel", "loose", "[I", true)
  | 24 => ("DialMenusModel", "sizes", "[I", true)
  | 25 => ("DialMenusModel", "looseWays", "[I", true)
  | 26 => ("DialMenusModel", "costs", "[I", true)
  | 27 => ("DialMenusModel", "parts", "[I", true)
  | 28 => ("DialMenusModel", "newPathLength", "[I", true)
  | 29 => ("DialMenusModel", "newSteps", "[I", true)
  | 30 => ("DialMenusModel", "asked", "I", false)
  | 31 => ("DialMenusModel", "askedAt", "[I", true)
  | _ => ("DialMenusModel", "h", "J", false)
def tyX1 : Nat → FieldType := fun k => match k with
  | 0 => .int
  | 1 => .array .int
  | 2 => .int
  | 3 => .array .int
  | 4 => .array .int
  | 5 => .array .int
  | 6 => .int
  | 7 => .int
  | 8 => .int
  | 9 => .array .int
  | 10 => .int
  | 11 => .array .int
  | 12 => .int
  | 13 => .array .int
  | 14 => .array .int
  | 15 => .int
  | 16 => .int
  | 17 => .int
  | 18 => .array .int
  | 19 => .array .int
  | 20 => .array .int
  | 21 => .array .int
  | 22 => .array .int
  | 23 => .array .int
  | 24 => .array .int
  | 25 => .array .int
  | 26 => .array .int
  | 27 => .array .int
  | 28 => .array .int
  | 29 => .array .int
  | 30 => .int
  | 31 => .array .int
  | _ => .long
abbrev wsX10 : List Cond := u_ws RX1 TX1 33
set_option maxRecDepth 100000 in
theorem nmX1 : ∀ a, a < 33 → ∀ b, b < 33 → a ≠ b → (TX1 a).2.1 ≠ (TX1 b).2.1 := by decide +kernel
set_option maxRecDepth 100000 in
theorem tyX1_ok : ∀ k, k < 33 → parseFieldDescriptor (TX1 k).2.2.1 = some (tyX1 k) := by decide +kernel
/-! DialMenus$Reader -/
set_option maxRecDepth 100000
def RX2 : String := "DialMenus$Reader"
def TX2 : u_T := fun k => match k with
  | 0 => ("DialMenus$Reader", "place", "I", false)
  | 1 => ("DialMenus$Reader", "isGood", "Z", false)
  | 2 => ("DialMenus$Reader", "read", "Ljava/util/TreeMap;", true)
  | _ => ("DialMenus$Reader", "this$0", "LDialMenus;", true)
def tyX2 : Nat → FieldType := fun k => match k with
  | 0 => .int
  | 1 => .boolean
  | 2 => .object "java/util/TreeMap"
  | _ => .object "DialMenus"
abbrev wsX20 : List Cond := u_ws RX2 TX2 4
theorem nmX2 : ∀ a, a < 4 → ∀ b, b < 4 → a ≠ b → (TX2 a).2.1 ≠ (TX2 b).2.1 := by decide +kernel
theorem tyX2_ok : ∀ k, k < 4 → parseFieldDescriptor (TX2 k).2.2.1 = some (tyX2 k) := by decide +kernel
/-! DialMenus$Name -/
set_option maxRecDepth 100000
def RX3 : String := "DialMenus$Name"
def TX3 : u_T := fun k => match k with
  | 0 => ("DialMenus$Name", "text", "Ljava/lang/String;", true)
  | 1 => ("DialMenus$Name", "use", "I", false)
  | _ => ("DialMenus$Name", "this$0", "LDialMenus;", true)
def tyX3 : Nat → FieldType := fun k => match k with
  | 0 => .object "java/lang/String"
  | 1 => .int
  | _ => .object "DialMenus"
abbrev wsX30 : List Cond := u_ws RX3 TX3 3
theorem nmX3 : ∀ a, a < 3 → ∀ b, b < 3 → a ≠ b → (TX3 a).2.1 ≠ (TX3 b).2.1 := by decide +kernel
theorem tyX3_ok : ∀ k, k < 3 → parseFieldDescriptor (TX3 k).2.2.1 = some (tyX3 k) := by decide +kernel
/-! DialMenus$Chosen -/
set_option maxRecDepth 100000
def RX4 : String := "DialMenus$Chosen"
def TX4 : u_T := fun k => match k with
  | 0 => ("DialMenus$Chosen", "number", "I", true)
  | _ => ("DialMenus$Chosen", "use", "I", true)
def tyX4 : Nat → FieldType := fun k => match k with
  | 0 => .int
  | _ => .int
abbrev wsX40 : List Cond := u_ws RX4 TX4 2
theorem nmX4 : ∀ a, a < 2 → ∀ b, b < 2 → a ≠ b → (TX4 a).2.1 ≠ (TX4 b).2.1 := by decide +kernel
theorem tyX4_ok : ∀ k, k < 2 → parseFieldDescriptor (TX4 k).2.2.1 = some (tyX4 k) := by decide +kernel
/-! DialMenus$Menu -/
set_option maxRecDepth 100000
def RX5 : String := "DialMenus$Menu"
def TX5 : u_T := fun k => match k with
  | 0 => ("DialMenus$Menu", "from", "I", true)
  | 1 => ("DialMenus$Menu", "to", "I", true)
  | 2 => ("DialMenus$Menu", "parts", "Ljava/util/ArrayList;", true)
  | _ => ("DialMenus$Menu", "this$0", "LDialMenus;", true)
def tyX5 : Nat → FieldType := fun k => match k with
  | 0 => .int
  | 1 => .int
  | 2 => .object "java/util/ArrayList"
  | _ => .object "DialMenus"
abbrev wsX50 : List Cond := u_ws RX5 TX5 4
theorem nmX5 : ∀ a, a < 4 → ∀ b, b < 4 → a ≠ b → (TX5 a).2.1 ≠ (TX5 b).2.1 := by decide +kernel
theorem tyX5_ok : ∀ k, k < 4 → parseFieldDescriptor (TX5 k).2.2.1 = some (tyX5 k) := by decide +kernel
/-! java/util/AbstractCollection -/
set_option maxRecDepth 100000
def RJ0 : String := "java/util/AbstractCollection"
/-! java/util/AbstractList -/
set_option maxRecDepth 100000
def RJ1 : String := "java/util/AbstractList"
/-! java/util/ArrayList -/
set_option maxRecDepth 100000
def RJ2 : String := "java/util/ArrayList"
def TJ2 : u_T := fun k => match k with
  | 0 => ("java/util/AbstractList", "modCount", "I", false)
  | 1 => ("java/util/ArrayList", "elementData", "[Ljava/lang/Object;", false)
  | _ => ("java/util/ArrayList", "size", "I", false)
def tyJ2 : Nat → FieldType := fun k => match k with
  | 0 => .int
  | 1 => .array (.object "java/lang/Object")
  | _ => .int
abbrev wsJ20 : List Cond := u_ws RJ2 TJ2 3
theorem nmJ2 : ∀ a, a < 3 → ∀ b, b < 3 → a ≠ b → (TJ2 a).2.1 ≠ (TJ2 b).2.1 := by decide +kernel
theorem tyJ2_ok : ∀ k, k < 3 → parseFieldDescriptor (TJ2 k).2.2.1 = some (tyJ2 k) := by decide +kernel
/-! java/util/List -/
set_option maxRecDepth 100000
def RJ3 : String := "java/util/List"
/-! java/util/ImmutableCollections -/
set_option maxRecDepth 100000
def RJ4 : String := "java/util/ImmutableCollections"
/-! java/util/Objects -/
set_option maxRecDepth 100000
def RJ5 : String := "java/util/Objects"
/-! java/util/ImmutableCollections$AbstractImmutableCollection -/
set_option maxRecDepth 100000
def RJ6 : String := "java/util/ImmutableCollections$AbstractImmutableCollection"
/-! java/util/ImmutableCollections$AbstractImmutableList -/
set_option maxRecDepth 100000
def RJ7 : String := "java/util/ImmutableCollections$AbstractImmutableList"
/-! java/util/ImmutableCollections$List12 -/
set_option maxRecDepth 100000
def RJ8 : String := "java/util/ImmutableCollections$List12"
def TJ8 : u_T := fun k => match k with
  | 0 => ("java/util/ImmutableCollections$List12", "e0", "Ljava/lang/Object;", true)
  | _ => ("java/util/ImmutableCollections$List12", "e1", "Ljava/lang/Object;", true)
def tyJ8 : Nat → FieldType := fun k => match k with
  | 0 => .object "java/lang/Object"
  | _ => .object "java/lang/Object"
abbrev wsJ80 : List Cond := u_ws RJ8 TJ8 2
theorem nmJ8 : ∀ a, a < 2 → ∀ b, b < 2 → a ≠ b → (TJ8 a).2.1 ≠ (TJ8 b).2.1 := by decide +kernel
theorem tyJ8_ok : ∀ k, k < 2 → parseFieldDescriptor (TJ8 k).2.2.1 = some (tyJ8 k) := by decide +kernel
/-! java/util/ImmutableCollections$ListN -/
set_option maxRecDepth 100000
def RJ9 : String := "java/util/ImmutableCollections$ListN"
def TJ9 : u_T := fun k => match k with
  | 0 => ("java/util/ImmutableCollections$ListN", "elements", "[Ljava/lang/Object;", true)
  | _ => ("java/util/ImmutableCollections$ListN", "allowNulls", "Z", true)
def tyJ9 : Nat → FieldType := fun k => match k with
  | 0 => .array (.object "java/lang/Object")
  | _ => .boolean
abbrev wsJ90 : List Cond := u_ws RJ9 TJ9 2
theorem nmJ9 : ∀ a, a < 2 → ∀ b, b < 2 → a ≠ b → (TJ9 a).2.1 ≠ (TJ9 b).2.1 := by decide +kernel
theorem tyJ9_ok : ∀ k, k < 2 → parseFieldDescriptor (TJ9 k).2.2.1 = some (tyJ9 k) := by decide +kernel
/-! java/lang/AbstractStringBuilder -/
set_option maxRecDepth 100000
def RJ10 : String := "java/lang/AbstractStringBuilder"
/-! java/lang/StringBuilder -/
set_option maxRecDepth 100000
def RJ11 : String := "java/lang/StringBuilder"
def TJ11 : u_T := fun k => match k with
  | 0 => ("java/lang/AbstractStringBuilder", "value", "[B", false)
  | 1 => ("java/lang/AbstractStringBuilder", "coder", "B", false)
  | 2 => ("java/lang/AbstractStringBuilder", "maybeLatin1", "Z", false)
  | _ => ("java/lang/AbstractStringBuilder", "count", "I", false)
def tyJ11 : Nat → FieldType := fun k => match k with
  | 0 => .array .byte
  | 1 => .byte
  | 2 => .boolean
  | _ => .int
abbrev wsJ110 : List Cond := u_ws RJ11 TJ11 4
theorem nmJ11 : ∀ a, a < 4 → ∀ b, b < 4 → a ≠ b → (TJ11 a).2.1 ≠ (TJ11 b).2.1 := by decide +kernel
theorem tyJ11_ok : ∀ k, k < 4 → parseFieldDescriptor (TJ11 k).2.2.1 = some (tyJ11 k) := by decide +kernel
/-! java/lang/String -/
set_option maxRecDepth 100000
def RJ12 : String := "java/lang/String"
def TJ12 : u_T := fun k => match k with
  | 0 => ("java/lang/String", "value", "[B", true)
  | 1 => ("java/lang/String", "coder", "B", true)
  | 2 => ("java/lang/String", "hash", "I", false)
  | _ => ("java/lang/String", "hashIsZero", "Z", false)
def tyJ12 : Nat → FieldType := fun k => match k with
  | 0 => .array .byte
  | 1 => .byte
  | 2 => .int
  | _ => .boolean
abbrev wsJ120 : List Cond := u_ws RJ12 TJ12 4
theorem nmJ12 : ∀ a, a < 4 → ∀ b, b < 4 → a ≠ b → (TJ12 a).2.1 ≠ (TJ12 b).2.1 := by decide +kernel
theorem tyJ12_ok : ∀ k, k < 4 → parseFieldDescriptor (TJ12 k).2.2.1 = some (tyJ12 k) := by decide +kernel
/-! java/lang/StringUTF16 -/
set_option maxRecDepth 100000
def RJ13 : String := "java/lang/StringUTF16"
/-! java/util/AbstractSequentialList -/
set_option maxRecDepth 100000
def RJ14 : String := "java/util/AbstractSequentialList"
/-! java/util/LinkedList -/
set_option maxRecDepth 100000
def RJ15 : String := "java/util/LinkedList"
def TJ15 : u_T := fun k => match k with
  | 0 => ("java/util/AbstractList", "modCount", "I", false)
  | 1 => ("java/util/LinkedList", "size", "I", false)
  | 2 => ("java/util/LinkedList", "first", "Ljava/util/LinkedList$Node;", false)
  | _ => ("java/util/LinkedList", "last", "Ljava/util/LinkedList$Node;", false)
def tyJ15 : Nat → FieldType := fun k => match k with
  | 0 => .int
  | 1 => .int
  | 2 => .object "java/util/LinkedList$Node"
  | _ => .object "java/util/LinkedList$Node"
abbrev wsJ150 : List Cond := u_ws RJ15 TJ15 4
theorem nmJ15 : ∀ a, a < 4 → ∀ b, b < 4 → a ≠ b → (TJ15 a).2.1 ≠ (TJ15 b).2.1 := by decide +kernel
theorem tyJ15_ok : ∀ k, k < 4 → parseFieldDescriptor (TJ15 k).2.2.1 = some (tyJ15 k) := by decide +kernel
/-! java/util/ArrayList$Itr -/
set_option maxRecDepth 100000
def RJ16 : String := "java/util/ArrayList$Itr"
def TJ16 : u_T := fun k => match k with
  | 0 => ("java/util/ArrayList$Itr", "cursor", "I", false)
  | 1 => ("java/util/ArrayList$Itr", "lastRet", "I", false)
  | 2 => ("java/util/ArrayList$Itr", "expectedModCount", "I", false)
  | _ => ("java/util/ArrayList$Itr", "this$0", "Ljava/util/ArrayList;", true)
def tyJ16 : Nat → FieldType := fun k => match k with
  | 0 => .int
  | 1 => .int
  | 2 => .int
  | _ => .object "java/util/ArrayList"
abbrev wsJ160 : List Cond := u_ws RJ16 TJ16 4
theorem nmJ16 : ∀ a, a < 4 → ∀ b, b < 4 → a ≠ b → (TJ16 a).2.1 ≠ (TJ16 b).2.1 := by decide +kernel
theorem tyJ16_ok : ∀ k, k < 4 → parseFieldDescriptor (TJ16 k).2.2.1 = some (tyJ16 k) := by decide +kernel
/-! java/util/ImmutableCollections$ListItr -/
set_option maxRecDepth 100000
def RJ17 : String := "java/util/ImmutableCollections$ListItr"
def TJ17 : u_T := fun k => match k with
  | 0 => ("java/util/ImmutableCollections$ListItr", "list", "Ljava/util/List;", true)
  | 1 => ("java/util/ImmutableCollections$ListItr", "size", "I", true)
  | 2 => ("java/util/ImmutableCollections$ListItr", "isListIterator", "Z", true)
  | _ => ("java/util/ImmutableCollections$ListItr", "cursor", "I", false)
def tyJ17 : Nat → FieldType := fun k => match k with
  | 0 => .object "java/util/List"
  | 1 => .int
  | 2 => .boolean
  | _ => .int
abbrev wsJ170 : List Cond := u_ws RJ17 TJ17 4
theorem nmJ17 : ∀ a, a < 4 → ∀ b, b < 4 → a ≠ b → (TJ17 a).2.1 ≠ (TJ17 b).2.1 := by decide +kernel
theorem tyJ17_ok : ∀ k, k < 4 → parseFieldDescriptor (TJ17 k).2.2.1 = some (tyJ17 k) := by decide +kernel
/-! java/util/AbstractList$Itr -/
set_option maxRecDepth 100000
def RJ18 : String := "java/util/AbstractList$Itr"
/-! java/util/AbstractList$ListItr -/
set_option maxRecDepth 100000
def RJ19 : String := "java/util/AbstractList$ListItr"
/-! java/util/ArrayList$ListItr -/
set_option maxRecDepth 100000
def RJ20 : String := "java/util/ArrayList$ListItr"
def TJ20 : u_T := fun k => match k with
  | 0 => ("java/util/ArrayList$Itr", "cursor", "I", false)
  | 1 => ("java/util/ArrayList$Itr", "lastRet", "I", false)
  | 2 => ("java/util/ArrayList$Itr", "expectedModCount", "I", false)
  | 3 => ("java/util/ArrayList$Itr", "this$0", "Ljava/util/ArrayList;", true)
  | _ => ("java/util/ArrayList$ListItr", "this$0", "Ljava/util/ArrayList;", true)
def tyJ20 : Nat → FieldType := fun k => match k with
  | 0 => .int
  | 1 => .int
  | 2 => .int
  | 3 => .object "java/util/ArrayList"
  | _ => .object "java/util/ArrayList"
abbrev wsJ200 : List Cond := u_ws RJ20 TJ20 5
-- two fields of one name: no nmJ20
theorem tyJ20_ok : ∀ k, k < 5 → parseFieldDescriptor (TJ20 k).2.2.1 = some (tyJ20 k) := by decide +kernel
/-! java/util/LinkedList$ListItr -/
set_option maxRecDepth 100000
def RJ21 : String := "java/util/LinkedList$ListItr"
def TJ21 : u_T := fun k => match k with
  | 0 => ("java/util/LinkedList$ListItr", "lastReturned", "Ljava/util/LinkedList$Node;", false)
  | 1 => ("java/util/LinkedList$ListItr", "next", "Ljava/util/LinkedList$Node;", false)
  | 2 => ("java/util/LinkedList$ListItr", "nextIndex", "I", false)
  | 3 => ("java/util/LinkedList$ListItr", "expectedModCount", "I", false)
  | _ => ("java/util/LinkedList$ListItr", "this$0", "Ljava/util/LinkedList;", true)
def tyJ21 : Nat → FieldType := fun k => match k with
  | 0 => .object "java/util/LinkedList$Node"
  | 1 => .object "java/util/LinkedList$Node"
  | 2 => .int
  | 3 => .int
  | _ => .object "java/util/LinkedList"
abbrev wsJ210 : List Cond := u_ws RJ21 TJ21 5
theorem nmJ21 : ∀ a, a < 5 → ∀ b, b < 5 → a ≠ b → (TJ21 a).2.1 ≠ (TJ21 b).2.1 := by decide +kernel
theorem tyJ21_ok : ∀ k, k < 5 → parseFieldDescriptor (TJ21 k).2.2.1 = some (tyJ21 k) := by decide +kernel
/-! jdk/internal/util/Preconditions -/
set_option maxRecDepth 100000
def RJ22 : String := "jdk/internal/util/Preconditions"
/-! java/lang/Throwable -/
set_option maxRecDepth 100000
def RJ23 : String := "java/lang/Throwable"
def TJ23 : u_T := fun k => match k with
  | 0 => ("java/lang/Throwable", "cause", "Ljava/lang/Throwable;", false)
  | 1 => ("java/lang/Throwable", "stackTrace", "[Ljava/lang/StackTraceElement;", false)
  | 2 => ("java/lang/Throwable", "suppressedExceptions", "Ljava/util/List;", false)
  | 3 => ("java/lang/Throwable", "detailMessage", "Ljava/lang/String;", false)
  | _ => ("java/lang/Throwable", "backtrace", "Ljava/lang/Object;", false)
def tyJ23 : Nat → FieldType := fun k => match k with
  | 0 => .object "java/lang/Throwable"
  | 1 => .array (.object "java/lang/StackTraceElement")
  | 2 => .object "java/util/List"
  | 3 => .object "java/lang/String"
  | _ => .object "java/lang/Object"
abbrev wsJ230 : List Cond := u_ws RJ23 TJ23 5
theorem nmJ23 : ∀ a, a < 5 → ∀ b, b < 5 → a ≠ b → (TJ23 a).2.1 ≠ (TJ23 b).2.1 := by decide +kernel
theorem tyJ23_ok : ∀ k, k < 5 → parseFieldDescriptor (TJ23 k).2.2.1 = some (tyJ23 k) := by decide +kernel
/-! java/lang/Exception -/
set_option maxRecDepth 100000
def RJ24 : String := "java/lang/Exception"
/-! java/lang/RuntimeException -/
set_option maxRecDepth 100000
def RJ25 : String := "java/lang/RuntimeException"
/-! java/util/NoSuchElementException -/
set_option maxRecDepth 100000
def RJ26 : String := "java/util/NoSuchElementException"
def TJ26 : u_T := fun k => match k with
  | 0 => ("java/lang/Throwable", "cause", "Ljava/lang/Throwable;", false)
  | 1 => ("java/lang/Throwable", "stackTrace", "[Ljava/lang/StackTraceElement;", false)
  | 2 => ("java/lang/Throwable", "suppressedExceptions", "Ljava/util/List;", false)
  | 3 => ("java/lang/Throwable", "detailMessage", "Ljava/lang/String;", false)
  | 4 => ("java/lang/Throwable", "backtrace", "Ljava/lang/Object;", false)
  | _ => ("java/lang/Throwable", "depth", "I", false)
def tyJ26 : Nat → FieldType := fun k => match k with
  | 0 => .object "java/lang/Throwable"
  | 1 => .array (.object "java/lang/StackTraceElement")
  | 2 => .object "java/util/List"
  | 3 => .object "java/lang/String"
  | 4 => .object "java/lang/Object"
  | _ => .int
abbrev wsJ260 : List Cond := u_ws RJ26 TJ26 6
theorem nmJ26 : ∀ a, a < 6 → ∀ b, b < 6 → a ≠ b → (TJ26 a).2.1 ≠ (TJ26 b).2.1 := by decide +kernel
theorem tyJ26_ok : ∀ k, k < 6 → parseFieldDescriptor (TJ26 k).2.2.1 = some (tyJ26 k) := by decide +kernel
/-! jdk/internal/util/ArraysSupport -/
set_option maxRecDepth 100000
def RJ27 : String := "jdk/internal/util/ArraysSupport"
/-! java/lang/Math -/
set_option maxRecDepth 100000
def RJ28 : String := "java/lang/Math"
/-! java/util/Arrays -/
set_option maxRecDepth 100000
def RJ29 : String := "java/util/Arrays"
/-! java/lang/StringLatin1 -/
set_option maxRecDepth 100000
def RJ30 : String := "java/lang/StringLatin1"
/-! java/util/ArrayDeque -/
set_option maxRecDepth 100000
def RJ31 : String := "java/util/ArrayDeque"
def TJ31 : u_T := fun k => match k with
  | 0 => ("java/util/ArrayDeque", "elements", "[Ljava/lang/Object;", false)
  | 1 => ("java/util/ArrayDeque", "head", "I", false)
  | _ => ("java/util/ArrayDeque", "tail", "I", false)
def tyJ31 : Nat → FieldType := fun k => match k with
  | 0 => .array (.object "java/lang/Object")
  | 1 => .int
  | _ => .int
abbrev wsJ310 : List Cond := u_ws RJ31 TJ31 3
theorem nmJ31 : ∀ a, a < 3 → ∀ b, b < 3 → a ≠ b → (TJ31 a).2.1 ≠ (TJ31 b).2.1 := by decide +kernel
theorem tyJ31_ok : ∀ k, k < 3 → parseFieldDescriptor (TJ31 k).2.2.1 = some (tyJ31 k) := by decide +kernel
/-! java/util/AbstractMap -/
set_option maxRecDepth 100000
def RJ32 : String := "java/util/AbstractMap"
/-! java/util/TreeMap -/
set_option maxRecDepth 100000
def RJ33 : String := "java/util/TreeMap"
def TJ33 : u_T := fun k => match k with
  | 0 => ("java/util/AbstractMap", "keySet", "Ljava/util/Set;", false)
  | 1 => ("java/util/AbstractMap", "values", "Ljava/util/Collection;", false)
  | 2 => ("java/util/TreeMap", "comparator", "Ljava/util/Comparator;", true)
  | 3 => ("java/util/TreeMap", "root", "Ljava/util/TreeMap$Entry;", false)
  | 4 => ("java/util/TreeMap", "size", "I", false)
  | 5 => ("java/util/TreeMap", "modCount", "I", false)
  | 6 => ("java/util/TreeMap", "entrySet", "Ljava/util/TreeMap$EntrySet;", false)
  | 7 => ("java/util/TreeMap", "navigableKeySet", "Ljava/util/TreeMap$KeySet;", false)
  | _ => ("java/util/TreeMap", "descendingMap", "Ljava/util/NavigableMap;", false)
def tyJ33 : Nat → FieldType := fun k => match k with
  | 0 => .object "java/util/Set"
  | 1 => .object "java/util/Collection"
  | 2 => .object "java/util/Comparator"
  | 3 => .object "java/util/TreeMap$Entry"
  | 4 => .int
  | 5 => .int
  | 6 => .object "java/util/TreeMap$EntrySet"
  | 7 => .object "java/util/TreeMap$KeySet"
  | _ => .object "java/util/NavigableMap"
abbrev wsJ330 : List Cond := u_ws RJ33 TJ33 9
theorem nmJ33 : ∀ a, a < 9 → ∀ b, b < 9 → a ≠ b → (TJ33 a).2.1 ≠ (TJ33 b).2.1 := by decide +kernel
theorem tyJ33_ok : ∀ k, k < 9 → parseFieldDescriptor (TJ33 k).2.2.1 = some (tyJ33 k) := by decide +kernel
/-! jdk/internal/misc/Unsafe -/
set_option maxRecDepth 100000
def RJ34 : String := "jdk/internal/misc/Unsafe"
/-! java/lang/Number -/
set_option maxRecDepth 100000
def RJ35 : String := "java/lang/Number"
/-! java/lang/Long -/
set_option maxRecDepth 100000
def RJ36 : String := "java/lang/Long"
/-! java/lang/Integer -/
set_option maxRecDepth 100000
def RJ37 : String := "java/lang/Integer"
def TJ37 : u_T := fun k => match k with
  | _ => ("java/lang/Integer", "value", "I", true)
def tyJ37 : Nat → FieldType := fun k => match k with
  | _ => .int
abbrev wsJ370 : List Cond := u_ws RJ37 TJ37 1
theorem nmJ37 : ∀ a, a < 1 → ∀ b, b < 1 → a ≠ b → (TJ37 a).2.1 ≠ (TJ37 b).2.1 := by decide +kernel
theorem tyJ37_ok : ∀ k, k < 1 → parseFieldDescriptor (TJ37 k).2.2.1 = some (tyJ37 k) := by decide +kernel
/-! java/util/TreeMap$Entry -/
set_option maxRecDepth 100000
def RJ38 : String := "java/util/TreeMap$Entry"
def TJ38 : u_T := fun k => match k with
  | 0 => ("java/util/TreeMap$Entry", "key", "Ljava/lang/Object;", false)
  | 1 => ("java/util/TreeMap$Entry", "value", "Ljava/lang/Object;", false)
  | 2 => ("java/util/TreeMap$Entry", "left", "Ljava/util/TreeMap$Entry;", false)
  | 3 => ("java/util/TreeMap$Entry", "right", "Ljava/util/TreeMap$Entry;", false)
  | 4 => ("java/util/TreeMap$Entry", "parent", "Ljava/util/TreeMap$Entry;", false)
  | _ => ("java/util/TreeMap$Entry", "color", "Z", false)
def tyJ38 : Nat → FieldType := fun k => match k with
  | 0 => .object "java/lang/Object"
  | 1 => .object "java/lang/Object"
  | 2 => .object "java/util/TreeMap$Entry"
  | 3 => .object "java/util/TreeMap$Entry"
  | 4 => .object "java/util/TreeMap$Entry"
  | _ => .boolean
abbrev wsJ380 : List Cond := u_ws RJ38 TJ38 6
theorem nmJ38 : ∀ a, a < 6 → ∀ b, b < 6 → a ≠ b → (TJ38 a).2.1 ≠ (TJ38 b).2.1 := by decide +kernel
theorem tyJ38_ok : ∀ k, k < 6 → parseFieldDescriptor (TJ38 k).2.2.1 = some (tyJ38 k) := by decide +kernel
/-! java/util/AbstractSet -/
set_option maxRecDepth 100000
def RJ39 : String := "java/util/AbstractSet"
/-! java/util/TreeMap$KeySet -/
set_option maxRecDepth 100000
def RJ40 : String := "java/util/TreeMap$KeySet"
def TJ40 : u_T := fun k => match k with
  | _ => ("java/util/TreeMap$KeySet", "m", "Ljava/util/NavigableMap;", true)
def tyJ40 : Nat → FieldType := fun k => match k with
  | _ => .object "java/util/NavigableMap"
abbrev wsJ400 : List Cond := u_ws RJ40 TJ40 1
theorem nmJ40 : ∀ a, a < 1 → ∀ b, b < 1 → a ≠ b → (TJ40 a).2.1 ≠ (TJ40 b).2.1 := by decide +kernel
theorem tyJ40_ok : ∀ k, k < 1 → parseFieldDescriptor (TJ40 k).2.2.1 = some (tyJ40 k) := by decide +kernel
/-! java/util/TreeMap$PrivateEntryIterator -/
set_option maxRecDepth 100000
def RJ41 : String := "java/util/TreeMap$PrivateEntryIterator"
/-! java/util/TreeMap$KeyIterator -/
set_option maxRecDepth 100000
def RJ42 : String := "java/util/TreeMap$KeyIterator"
def TJ42 : u_T := fun k => match k with
  | 0 => ("java/util/TreeMap$PrivateEntryIterator", "next", "Ljava/util/TreeMap$Entry;", false)
  | 1 => ("java/util/TreeMap$PrivateEntryIterator", "lastReturned", "Ljava/util/TreeMap$Entry;", false)
  | 2 => ("java/util/TreeMap$PrivateEntryIterator", "expectedModCount", "I", false)
  | _ => ("java/util/TreeMap$PrivateEntryIterator", "this$0", "Ljava/util/TreeMap;", true)
def tyJ42 : Nat → FieldType := fun k => match k with
  | 0 => .object "java/util/TreeMap$Entry"
  | 1 => .object "java/util/TreeMap$Entry"
  | 2 => .int
  | _ => .object "java/util/TreeMap"
abbrev wsJ420 : List Cond := u_ws RJ42 TJ42 4
theorem nmJ42 : ∀ a, a < 4 → ∀ b, b < 4 → a ≠ b → (TJ42 a).2.1 ≠ (TJ42 b).2.1 := by decide +kernel
theorem tyJ42_ok : ∀ k, k < 4 → parseFieldDescriptor (TJ42 k).2.2.1 = some (tyJ42 k) := by decide +kernel
/-! java/util/Collections -/
set_option maxRecDepth 100000
def RJ43 : String := "java/util/Collections"
/-! java/util/ComparableTimSort -/
set_option maxRecDepth 100000
def RJ44 : String := "java/util/ComparableTimSort"
def TJ44 : u_T := fun k => match k with
  | 0 => ("java/util/ComparableTimSort", "a", "[Ljava/lang/Object;", true)
  | 1 => ("java/util/ComparableTimSort", "minGallop", "I", false)
  | 2 => ("java/util/ComparableTimSort", "tmp", "[Ljava/lang/Object;", false)
  | 3 => ("java/util/ComparableTimSort", "tmpBase", "I", false)
  | 4 => ("java/util/ComparableTimSort", "tmpLen", "I", false)
  | 5 => ("java/util/ComparableTimSort", "stackSize", "I", false)
  | 6 => ("java/util/ComparableTimSort", "runBase", "[I", true)
  | _ => ("java/util/ComparableTimSort", "runLen", "[I", true)
def tyJ44 : Nat → FieldType := fun k => match k with
  | 0 => .array (.object "java/lang/Object")
  | 1 => .int
  | 2 => .array (.object "java/lang/Object")
  | 3 => .int
  | 4 => .int
  | 5 => .int
  | 6 => .array .int
  | _ => .array .int
abbrev wsJ440 : List Cond := u_ws RJ44 TJ44 8
theorem nmJ44 : ∀ a, a < 8 → ∀ b, b < 8 → a ≠ b → (TJ44 a).2.1 ≠ (TJ44 b).2.1 := by decide +kernel
theorem tyJ44_ok : ∀ k, k < 8 → parseFieldDescriptor (TJ44 k).2.2.1 = some (tyJ44 k) := by decide +kernel
/-! java/util/TimSort -/
set_option maxRecDepth 100000
def RJ45 : String := "java/util/TimSort"
/-! java/lang/IllegalStateException -/
set_option maxRecDepth 100000
def RJ46 : String := "java/lang/IllegalStateException"
def TJ46 : u_T := fun k => match k with
  | 0 => ("java/lang/Throwable", "cause", "Ljava/lang/Throwable;", false)
  | 1 => ("java/lang/Throwable", "stackTrace", "[Ljava/lang/StackTraceElement;", false)
  | 2 => ("java/lang/Throwable", "suppressedExceptions", "Ljava/util/List;", false)
  | 3 => ("java/lang/Throwable", "detailMessage", "Ljava/lang/String;", false)
  | 4 => ("java/lang/Throwable", "backtrace", "Ljava/lang/Object;", false)
  | _ => ("java/lang/Throwable", "depth", "I", false)
def tyJ46 : Nat → FieldType := fun k => match k with
  | 0 => .object "java/lang/Throwable"
  | 1 => .array (.object "java/lang/StackTraceElement")
  | 2 => .object "java/util/List"
  | 3 => .object "java/lang/String"
  | 4 => .object "java/lang/Object"
  | _ => .int
abbrev wsJ460 : List Cond := u_ws RJ46 TJ46 6
theorem nmJ46 : ∀ a, a < 6 → ∀ b, b < 6 → a ≠ b → (TJ46 a).2.1 ≠ (TJ46 b).2.1 := by decide +kernel
theorem tyJ46_ok : ∀ k, k < 6 → parseFieldDescriptor (TJ46 k).2.2.1 = some (tyJ46 k) := by decide +kernel
/-! java/util/ConcurrentModificationException -/
set_option maxRecDepth 100000
def RJ47 : String := "java/util/ConcurrentModificationException"
def TJ47 : u_T := fun k => match k with
  | 0 => ("java/lang/Throwable", "backtrace", "Ljava/lang/Object;", false)
  | 1 => ("java/lang/Throwable", "detailMessage", "Ljava/lang/String;", false)
  | 2 => ("java/lang/Throwable", "cause", "Ljava/lang/Throwable;", false)
  | 3 => ("java/lang/Throwable", "stackTrace", "[Ljava/lang/StackTraceElement;", false)
  | 4 => ("java/lang/Throwable", "depth", "I", false)
  | _ => ("java/lang/Throwable", "suppressedExceptions", "Ljava/util/List;", false)
def tyJ47 : Nat → FieldType := fun k => match k with
  | 0 => .object "java/lang/Object"
  | 1 => .object "java/lang/String"
  | 2 => .object "java/lang/Throwable"
  | 3 => .array (.object "java/lang/StackTraceElement")
  | 4 => .int
  | _ => .object "java/util/List"
abbrev wsJ470 : List Cond := u_ws RJ47 TJ47 6
theorem nmJ47 : ∀ a, a < 6 → ∀ b, b < 6 → a ≠ b → (TJ47 a).2.1 ≠ (TJ47 b).2.1 := by decide +kernel
theorem tyJ47_ok : ∀ k, k < 6 → parseFieldDescriptor (TJ47 k).2.2.1 = some (tyJ47 k) := by decide +kernel
/-! java/util/ArrayDeque$DeqIterator -/
set_option maxRecDepth 100000
def RJ48 : String := "java/util/ArrayDeque$DeqIterator"
def TJ48 : u_T := fun k => match k with
  | 0 => ("java/util/ArrayDeque$DeqIterator", "cursor", "I", false)
  | 1 => ("java/util/ArrayDeque$DeqIterator", "remaining", "I", false)
  | 2 => ("java/util/ArrayDeque$DeqIterator", "lastRet", "I", false)
  | _ => ("java/util/ArrayDeque$DeqIterator", "this$0", "Ljava/util/ArrayDeque;", true)
def tyJ48 : Nat → FieldType := fun k => match k with
  | 0 => .int
  | 1 => .int
  | 2 => .int
  | _ => .object "java/util/ArrayDeque"
abbrev wsJ480 : List Cond := u_ws RJ48 TJ48 4
theorem nmJ48 : ∀ a, a < 4 → ∀ b, b < 4 → a ≠ b → (TJ48 a).2.1 ≠ (TJ48 b).2.1 := by decide +kernel
theorem tyJ48_ok : ∀ k, k < 4 → parseFieldDescriptor (TJ48 k).2.2.1 = some (tyJ48 k) := by decide +kernel
/-! java/util/BitSet -/
set_option maxRecDepth 100000
def RJ49 : String := "java/util/BitSet"
def TJ49 : u_T := fun k => match k with
  | 0 => ("java/util/BitSet", "words", "[J", false)
  | 1 => ("java/util/BitSet", "wordsInUse", "I", false)
  | _ => ("java/util/BitSet", "sizeIsSticky", "Z", false)
def tyJ49 : Nat → FieldType := fun k => match k with
  | 0 => .array .long
  | 1 => .int
  | _ => .boolean
abbrev wsJ490 : List Cond := u_ws RJ49 TJ49 3
theorem nmJ49 : ∀ a, a < 3 → ∀ b, b < 3 → a ≠ b → (TJ49 a).2.1 ≠ (TJ49 b).2.1 := by decide +kernel
theorem tyJ49_ok : ∀ k, k < 3 → parseFieldDescriptor (TJ49 k).2.2.1 = some (tyJ49 k) := by decide +kernel
/-! java/util/LinkedList$Node -/
set_option maxRecDepth 100000
def RJ50 : String := "java/util/LinkedList$Node"
def TJ50 : u_T := fun k => match k with
  | 0 => ("java/util/LinkedList$Node", "item", "Ljava/lang/Object;", false)
  | 1 => ("java/util/LinkedList$Node", "next", "Ljava/util/LinkedList$Node;", false)
  | _ => ("java/util/LinkedList$Node", "prev", "Ljava/util/LinkedList$Node;", false)
def tyJ50 : Nat → FieldType := fun k => match k with
  | 0 => .object "java/lang/Object"
  | 1 => .object "java/util/LinkedList$Node"
  | _ => .object "java/util/LinkedList$Node"
abbrev wsJ500 : List Cond := u_ws RJ50 TJ50 3
theorem nmJ50 : ∀ a, a < 3 → ∀ b, b < 3 → a ≠ b → (TJ50 a).2.1 ≠ (TJ50 b).2.1 := by decide +kernel
theorem tyJ50_ok : ∀ k, k < 3 → parseFieldDescriptor (TJ50 k).2.2.1 = some (tyJ50 k) := by decide +kernel
/-! java/util/TreeSet -/
set_option maxRecDepth 100000
def RJ51 : String := "java/util/TreeSet"
def TJ51 : u_T := fun k => match k with
  | _ => ("java/util/TreeSet", "m", "Ljava/util/NavigableMap;", false)
def tyJ51 : Nat → FieldType := fun k => match k with
  | _ => .object "java/util/NavigableMap"
abbrev wsJ510 : List Cond := u_ws RJ51 TJ51 1
theorem nmJ51 : ∀ a, a < 1 → ∀ b, b < 1 → a ≠ b → (TJ51 a).2.1 ≠ (TJ51 b).2.1 := by decide +kernel
theorem tyJ51_ok : ∀ k, k < 1 → parseFieldDescriptor (TJ51 k).2.2.1 = some (tyJ51 k) := by decide +kernel
/-! java/lang/Object -/
set_option maxRecDepth 100000
def RJ52 : String := "java/lang/Object"
