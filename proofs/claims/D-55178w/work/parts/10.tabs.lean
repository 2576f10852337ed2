/-! TABLES of the G-layer: classes by number, interface calls, String constants, statics (written by tools/tabs.py) -/
def gTE : u_T := fun _ => ("", "", "", false)
def gCl : List vw_C := [(RX4, TX4, 21), (RX1, TX1, 8), (RX2, TX2, 12), (RX3, TX3, 2), (RJ2, TJ2, 3), (RJ3, TJ3, 3), (RJ5, TJ5, 4), (RJ6, TJ6, 4), (RJ8, TJ8, 4), (RX5, TX5, 7), (RX6, TX6, 3), (RX7, TX7, 3), (RX17, TX17, 4), (RX13, TX13, 2), (RX14, gTE, 0), (RX16, TX16, 1), (RX11, TX11, 2), (RX18, TX18, 1), (RX8, TX8, 3), (RX19, TX19, 2), (RX10, TX10, 8), (RX20, TX20, 7), (RJ19, TJ19, 0), (RJ21, TJ21, 0), (RJ23, TJ23, 0), (RJ24, TJ24, 0), (RJ14, TJ14, 0), (RJ26, TJ26, 0)]
theorem gc_X4 : gCl[0]? = some (RX4, TX4, 21) := rfl
theorem gc_X1 : gCl[1]? = some (RX1, TX1, 8) := rfl
theorem gc_X2 : gCl[2]? = some (RX2, TX2, 12) := rfl
theorem gc_X3 : gCl[3]? = some (RX3, TX3, 2) := rfl
theorem gc_J2 : gCl[4]? = some (RJ2, TJ2, 3) := rfl
theorem gc_J3 : gCl[5]? = some (RJ3, TJ3, 3) := rfl
theorem gc_J5 : gCl[6]? = some (RJ5, TJ5, 4) := rfl
theorem gc_J6 : gCl[7]? = some (RJ6, TJ6, 4) := rfl
theorem gc_J8 : gCl[8]? = some (RJ8, TJ8, 4) := rfl
theorem gc_X5 : gCl[9]? = some (RX5, TX5, 7) := rfl
theorem gc_X6 : gCl[10]? = some (RX6, TX6, 3) := rfl
theorem gc_X7 : gCl[11]? = some (RX7, TX7, 3) := rfl
theorem gc_X17 : gCl[12]? = some (RX17, TX17, 4) := rfl
theorem gc_X13 : gCl[13]? = some (RX13, TX13, 2) := rfl
theorem gc_X14 : gCl[14]? = some (RX14, gTE, 0) := rfl
theorem gc_X16 : gCl[15]? = some (RX16, TX16, 1) := rfl
theorem gc_X11 : gCl[16]? = some (RX11, TX11, 2) := rfl
theorem gc_X18 : gCl[17]? = some (RX18, TX18, 1) := rfl
theorem gc_X8 : gCl[18]? = some (RX8, TX8, 3) := rfl
theorem gc_X19 : gCl[19]? = some (RX19, TX19, 2) := rfl
theorem gc_X10 : gCl[20]? = some (RX10, TX10, 8) := rfl
theorem gc_X20 : gCl[21]? = some (RX20, TX20, 7) := rfl
theorem gc_J19 : gCl[22]? = some (RJ19, TJ19, 0) := rfl
theorem gc_J21 : gCl[23]? = some (RJ21, TJ21, 0) := rfl
theorem gc_J23 : gCl[24]? = some (RJ23, TJ23, 0) := rfl
theorem gc_J24 : gCl[25]? = some (RJ24, TJ24, 0) := rfl
theorem gc_J14 : gCl[26]? = some (RJ14, TJ14, 0) := rfl
theorem gc_J26 : gCl[27]? = some (RJ26, TJ26, 0) := rfl
def gFws : List (String × MethodName × MethodName) := [("CurtainRiggers$Row$Steps", ⟨"java/util/Iterator", "hasNext", "()Z"⟩, ⟨"CurtainRiggers$Row$Steps", "hasNext", "()Z"⟩),
  ("java/util/ArrayDeque$DeqIterator", ⟨"java/util/Iterator", "hasNext", "()Z"⟩, ⟨"java/util/ArrayDeque$DeqIterator", "hasNext", "()Z"⟩),
  ("java/util/ArrayList$Itr", ⟨"java/util/Iterator", "hasNext", "()Z"⟩, ⟨"java/util/ArrayList$Itr", "hasNext", "()Z"⟩),
  ("CurtainRiggers$Row$Steps", ⟨"java/util/Iterator", "next", "()Ljava/lang/Object;"⟩, ⟨"CurtainRiggers$Row$Steps", "next", "()Ljava/lang/Object;"⟩),
  ("java/util/ArrayDeque$DeqIterator", ⟨"java/util/Iterator", "next", "()Ljava/lang/Object;"⟩, ⟨"java/util/ArrayDeque$DeqIterator", "next", "()Ljava/lang/Object;"⟩),
  ("java/util/ArrayList$Itr", ⟨"java/util/Iterator", "next", "()Ljava/lang/Object;"⟩, ⟨"java/util/ArrayList$Itr", "next", "()Ljava/lang/Object;"⟩),
  ("CurtainRiggers$Bar", ⟨"CurtainRiggers$Numbered", "copy", "()LCurtainRiggers$Numbered;"⟩, ⟨"CurtainRiggers$Bar", "copy", "()LCurtainRiggers$Numbered;"⟩),
  ("CurtainRiggers$Cue", ⟨"CurtainRiggers$Numbered", "copy", "()LCurtainRiggers$Numbered;"⟩, ⟨"CurtainRiggers$Cue", "copy", "()LCurtainRiggers$Numbered;"⟩),
  ("CurtainRiggers$Curtain", ⟨"CurtainRiggers$Numbered", "copy", "()LCurtainRiggers$Numbered;"⟩, ⟨"CurtainRiggers$Curtain", "copy", "()LCurtainRiggers$Numbered;"⟩),
  ("CurtainRiggers$Hand", ⟨"CurtainRiggers$Numbered", "copy", "()LCurtainRiggers$Numbered;"⟩, ⟨"CurtainRiggers$Hand", "copy", "()LCurtainRiggers$Numbered;"⟩),
  ("CurtainRiggers$Bar", ⟨"CurtainRiggers$Numbered", "number", "()I"⟩, ⟨"CurtainRiggers$Bar", "number", "()I"⟩),
  ("CurtainRiggers$Cue", ⟨"CurtainRiggers$Numbered", "number", "()I"⟩, ⟨"CurtainRiggers$Cue", "number", "()I"⟩),
  ("CurtainRiggers$Curtain", ⟨"CurtainRiggers$Numbered", "number", "()I"⟩, ⟨"CurtainRiggers$Curtain", "number", "()I"⟩),
  ("CurtainRiggers$Hand", ⟨"CurtainRiggers$Numbered", "number", "()I"⟩, ⟨"CurtainRiggers$Hand", "number", "()I"⟩),
  ("CurtainRiggers$Row", ⟨"java/lang/Iterable", "iterator", "()Ljava/util/Iterator;"⟩, ⟨"CurtainRiggers$Row", "iterator", "()Ljava/util/Iterator;"⟩),
  ("java/util/ArrayDeque", ⟨"java/lang/Iterable", "iterator", "()Ljava/util/Iterator;"⟩, ⟨"java/util/ArrayDeque", "iterator", "()Ljava/util/Iterator;"⟩),
  ("java/util/ArrayList", ⟨"java/lang/Iterable", "iterator", "()Ljava/util/Iterator;"⟩, ⟨"java/util/ArrayList", "iterator", "()Ljava/util/Iterator;"⟩),
  ("CurtainRiggers$ByBalance", ⟨"CurtainRiggers$Order", "isAhead", "(Ljava/lang/Object;Ljava/lang/Object;)Z"⟩, ⟨"CurtainRiggers$ByBalance", "isAhead", "(Ljava/lang/Object;Ljava/lang/Object;)Z"⟩),
  ("CurtainRiggers$ByLight", ⟨"CurtainRiggers$Order", "isAhead", "(Ljava/lang/Object;Ljava/lang/Object;)Z"⟩, ⟨"CurtainRiggers$ByLight", "isAhead", "(Ljava/lang/Object;Ljava/lang/Object;)Z"⟩),
  ("CurtainRiggers$BarMeasure", ⟨"CurtainRiggers$Measure", "of", "(Ljava/lang/Object;)I"⟩, ⟨"CurtainRiggers$BarMeasure", "of", "(Ljava/lang/Object;)I"⟩),
  ("CurtainRiggers$Theatre$1OnFloor", ⟨"CurtainRiggers$Measure", "of", "(Ljava/lang/Object;)I"⟩, ⟨"CurtainRiggers$Theatre$1OnFloor", "of", "(Ljava/lang/Object;)I"⟩),
  ("java/lang/System$2", ⟨"jdk/internal/access/JavaLangAccess", "getUTF16Char", "([BI)C"⟩, ⟨"java/lang/System$2", "getUTF16Char", "([BI)C"⟩),
  ("java/lang/String", ⟨"java/lang/CharSequence", "length", "()I"⟩, ⟨"java/lang/String", "length", "()I"⟩),
  ("java/lang/StringBuilder", ⟨"java/lang/CharSequence", "length", "()I"⟩, ⟨"java/lang/StringBuilder", "length", "()I"⟩),
  ("java/lang/String", ⟨"java/lang/CharSequence", "charAt", "(I)C"⟩, ⟨"java/lang/String", "charAt", "(I)C"⟩),
  ("java/lang/StringBuilder", ⟨"java/lang/CharSequence", "charAt", "(I)C"⟩, ⟨"java/lang/StringBuilder", "charAt", "(I)C"⟩)]
theorem gFws_ok : ∀ q ∈ gFws, q.2.1.cls ≠ "java/lang/invoke/MethodHandle" ∧ q.2.1.cls ≠ "java/lang/invoke/VarHandle" := by decide +kernel
def gStrs : List (String × Nat × String × Nat) := [("CurtainRiggers", 57, "", 0),
  ("java/util/ArrayList", 201, "Index: ", 1),
  ("java/util/ArrayList", 203, ", Size: ", 2),
  ("java/util/Arrays", 337, " > ", 3),
  ("CurtainRiggers$Theatre", 345, "", 0),
  ("CurtainRiggers$Theatre", 354, ", ", 4),
  ("CurtainRiggers$Theatre", 356, "*", 5),
  ("CurtainRiggers$Theatre", 358, "no cues", 6),
  ("CurtainRiggers", 115, "told", 7),
  ("jdk/internal/util/ArraysSupport", 92, "unrecognized basic type: ", 8),
  ("CurtainRiggers$Change", 26, "hang ", 9),
  ("CurtainRiggers$Change", 32, "drop ", 10),
  ("CurtainRiggers$Change", 34, "add ", 11),
  ("CurtainRiggers$Change", 36, "off ", 12),
  ("CurtainRiggers$Change", 38, "fly ", 13),
  ("CurtainRiggers$Change", 40, "go", 14),
  ("CurtainRiggers$Change", 42, "open ", 15),
  ("CurtainRiggers$Change", 44, "close ", 16),
  ("CurtainRiggers$Change", 46, "year", 17),
  ("CurtainRiggers$Change", 48, "told", 7),
  ("CurtainRiggers$Change", 50, "bar", 18),
  ("CurtainRiggers$Change", 52, "rope", 19),
  ("CurtainRiggers$Change", 54, "curtain", 20),
  ("CurtainRiggers$Change", 56, "hand", 21),
  ("java/util/ArrayDeque", 35, "Sorry, deque too big", 22),
  ("CurtainRiggers", 121, "bar", 18),
  ("CurtainRiggers", 155, "rope", 19),
  ("CurtainRiggers", 157, "year", 17),
  ("CurtainRiggers", 159, "curtain", 20),
  ("CurtainRiggers", 191, "hang ", 9),
  ("CurtainRiggers", 193, "drop ", 10),
  ("CurtainRiggers", 195, "add ", 11),
  ("CurtainRiggers", 219, "hand", 21),
  ("CurtainRiggers", 221, "move", 23),
  ("CurtainRiggers", 231, "open ", 15),
  ("CurtainRiggers", 233, "close ", 16),
  ("CurtainRiggers", 245, "fly ", 13),
  ("CurtainRiggers", 282, "go", 14),
  ("CurtainRiggers$Theatre", 319, "m ", 24),
  ("CurtainRiggers$Theatre", 327, "kg", 25),
  ("CurtainRiggers$Theatre", 336, " c", 26),
  ("CurtainRiggers$Theatre", 343, " !", 27),
  ("CurtainRiggers$Parser", 65, "hang ", 9),
  ("CurtainRiggers$Parser", 67, "drop ", 10),
  ("CurtainRiggers$Parser", 69, "add ", 11),
  ("CurtainRiggers$Parser", 71, "off ", 12),
  ("CurtainRiggers$Parser", 73, "fly ", 13),
  ("CurtainRiggers$Parser", 75, "go", 14),
  ("CurtainRiggers$Parser", 77, "open ", 15),
  ("CurtainRiggers$Parser", 79, "close ", 16),
  ("CurtainRiggers$Parser", 81, "year", 17),
  ("CurtainRiggers$Parser", 113, "; ", 28),
  ("CurtainRiggersModel", 31, "hang ", 9),
  ("CurtainRiggersModel", 33, "drop ", 10),
  ("CurtainRiggersModel", 35, "add ", 11),
  ("CurtainRiggersModel", 37, "off ", 12),
  ("CurtainRiggersModel", 39, "fly ", 13),
  ("CurtainRiggersModel", 41, "go", 14),
  ("CurtainRiggersModel", 43, "open ", 15),
  ("CurtainRiggersModel", 45, "close ", 16),
  ("CurtainRiggersModel", 47, "year", 17),
  ("CurtainRiggersModel", 220, "m ", 24),
  ("CurtainRiggersModel", 226, "/", 29),
  ("CurtainRiggersModel", 228, "kg", 25),
  ("CurtainRiggersModel", 230, " c", 26),
  ("CurtainRiggersModel", 232, " !", 27),
  ("CurtainRiggersModel", 234, "", 0),
  ("CurtainRiggersModel", 236, ", ", 4),
  ("CurtainRiggersModel", 238, ":", 30),
  ("CurtainRiggersModel", 240, ">", 31),
  ("CurtainRiggersModel", 242, "*", 5),
  ("CurtainRiggersModel", 244, "no cues", 6)]
def gDfl : List Cond := [.methodLink "CurtainRiggers$ByLight" 7 ⟨"CurtainRiggers$Cue", "isAheadByNumber", "(LCurtainRiggers$Numbered;)Z"⟩, .sameMethod "CurtainRiggers$Cue" "CurtainRiggers$Numbered" "isAheadByNumber" "(LCurtainRiggers$Numbered;)Z", .methodLink "CurtainRiggers$ByBalance" 40 ⟨"CurtainRiggers$Bar", "isAheadByNumber", "(LCurtainRiggers$Numbered;)Z"⟩, .sameMethod "CurtainRiggers$Bar" "CurtainRiggers$Numbered" "isAheadByNumber" "(LCurtainRiggers$Numbered;)Z", .landsInDefault "CurtainRiggers$Cue" ⟨"CurtainRiggers$Cue", "isAheadByNumber", "(LCurtainRiggers$Numbered;)Z"⟩ ⟨"CurtainRiggers$Numbered", "isAheadByNumber", "(LCurtainRiggers$Numbered;)Z"⟩, .landsInDefault "CurtainRiggers$Bar" ⟨"CurtainRiggers$Bar", "isAheadByNumber", "(LCurtainRiggers$Numbered;)Z"⟩ ⟨"CurtainRiggers$Numbered", "isAheadByNumber", "(LCurtainRiggers$Numbered;)Z"⟩]
def gNcs : List (String × String) := [("java/lang/IllegalArgumentException", "java/lang/IndexOutOfBoundsException"), ("java/lang/IllegalArgumentException", "java/lang/IllegalStateException"), ("java/lang/IllegalArgumentException", "java/lang/UnsupportedOperationException"), ("java/lang/IllegalArgumentException", "java/util/NoSuchElementException"), ("java/lang/IllegalArgumentException", "java/lang/ArithmeticException"), ("java/lang/IllegalArgumentException", "CurtainRiggers$Refused"), ("java/lang/IllegalArgumentException", "CurtainRiggers$SyntaxException"), ("java/lang/IndexOutOfBoundsException", "java/lang/IllegalArgumentException"), ("java/lang/IndexOutOfBoundsException", "java/lang/IllegalStateException"), ("java/lang/IndexOutOfBoundsException", "java/lang/UnsupportedOperationException"), ("java/lang/IndexOutOfBoundsException", "java/util/NoSuchElementException"), ("java/lang/IndexOutOfBoundsException", "java/lang/ArithmeticException"), ("java/lang/IndexOutOfBoundsException", "CurtainRiggers$Refused"), ("java/lang/IndexOutOfBoundsException", "CurtainRiggers$SyntaxException"), ("java/lang/IllegalStateException", "java/lang/IllegalArgumentException"), ("java/lang/IllegalStateException", "java/lang/IndexOutOfBoundsException"), ("java/lang/IllegalStateException", "java/lang/UnsupportedOperationException"), ("java/lang/IllegalStateException", "java/util/NoSuchElementException"), ("java/lang/IllegalStateException", "java/lang/ArithmeticException"), ("java/lang/IllegalStateException", "CurtainRiggers$Refused"), ("java/lang/IllegalStateException", "CurtainRiggers$SyntaxException"), ("java/lang/UnsupportedOperationException", "java/lang/IllegalArgumentException"), ("java/lang/UnsupportedOperationException", "java/lang/IndexOutOfBoundsException"), ("java/lang/UnsupportedOperationException", "java/lang/IllegalStateException"), ("java/lang/UnsupportedOperationException", "java/util/NoSuchElementException"), ("java/lang/UnsupportedOperationException", "java/lang/ArithmeticException"), ("java/lang/UnsupportedOperationException", "CurtainRiggers$Refused"), ("java/lang/UnsupportedOperationException", "CurtainRiggers$SyntaxException"), ("java/util/NoSuchElementException", "java/lang/IllegalArgumentException"), ("java/util/NoSuchElementException", "java/lang/IndexOutOfBoundsException"), ("java/util/NoSuchElementException", "java/lang/IllegalStateException"), ("java/util/NoSuchElementException", "java/lang/UnsupportedOperationException"), ("java/util/NoSuchElementException", "java/lang/ArithmeticException"), ("java/util/NoSuchElementException", "CurtainRiggers$Refused"), ("java/util/NoSuchElementException", "CurtainRiggers$SyntaxException"), ("java/lang/ArithmeticException", "java/lang/IllegalArgumentException"), ("java/lang/ArithmeticException", "java/lang/IndexOutOfBoundsException"), ("java/lang/ArithmeticException", "java/lang/IllegalStateException"), ("java/lang/ArithmeticException", "java/lang/UnsupportedOperationException"), ("java/lang/ArithmeticException", "java/util/NoSuchElementException"), ("java/lang/ArithmeticException", "CurtainRiggers$Refused"), ("java/lang/ArithmeticException", "CurtainRiggers$SyntaxException"), ("CurtainRiggers$Refused", "java/lang/IllegalArgumentException"), ("CurtainRiggers$Refused", "java/lang/IndexOutOfBoundsException"), ("CurtainRiggers$Refused", "java/lang/IllegalStateException"), ("CurtainRiggers$Refused", "java/lang/UnsupportedOperationException"), ("CurtainRiggers$Refused", "java/util/NoSuchElementException"), ("CurtainRiggers$Refused", "java/lang/ArithmeticException"), ("CurtainRiggers$Refused", "CurtainRiggers$SyntaxException"), ("CurtainRiggers$SyntaxException", "java/lang/IllegalArgumentException"), ("CurtainRiggers$SyntaxException", "java/lang/IndexOutOfBoundsException"), ("CurtainRiggers$SyntaxException", "java/lang/IllegalStateException"), ("CurtainRiggers$SyntaxException", "java/lang/UnsupportedOperationException"), ("CurtainRiggers$SyntaxException", "java/util/NoSuchElementException"), ("CurtainRiggers$SyntaxException", "java/lang/ArithmeticException"), ("CurtainRiggers$SyntaxException", "CurtainRiggers$Refused")]
def gLdk (w : Cond) : Bool := match w with
  | .landsInDefault .. => true
  | _ => false
theorem gDfl_ok : ∀ w ∈ gDfl, goodWord w = true ∨ gLdk w = true := by decide +kernel
def gZs (K : Launch × va_G × (Nat → ClassId) × Nat × (Nat → Option va_E) × (Nat → Nat)) : List (String × String × String × Value) := [("java/lang/String", "COMPACT_STRINGS", "Z", .int 1), ("java/lang/Integer", "DigitOnes", "[B", .ref (K.2.2.2.2.2 201)), ("java/lang/Integer", "DigitTens", "[B", .ref (K.2.2.2.2.2 202)), ("java/util/ArrayList", "DEFAULTCAPACITY_EMPTY_ELEMENTDATA", "[Ljava/lang/Object;", .ref (K.2.2.2.2.2 203))]
