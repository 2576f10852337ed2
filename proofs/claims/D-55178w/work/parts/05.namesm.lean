/-! CurtainRiggersModel -/
set_option maxRecDepth 100000
def RX4 : String := "CurtainRiggersModel"
def TX4 : u_T := fun k => match k with
  | 0 => ("CurtainRiggersModel", "s", "[I", true)
  | 1 => ("CurtainRiggersModel", "before", "[I", true)
  | 2 => ("CurtainRiggersModel", "aside", "[I", true)
  | 3 => ("CurtainRiggersModel", "saved", "[I", true)
  | 4 => ("CurtainRiggersModel", "isSaved", "Z", false)
  | 5 => ("CurtainRiggersModel", "past", "[I", true)
  | 6 => ("CurtainRiggersModel", "pastMany", "I", false)
  | 7 => ("CurtainRiggersModel", "thrown", "I", false)
  | 8 => ("CurtainRiggersModel", "reason", "I", false)
  | 9 => ("CurtainRiggersModel", "detail", "I", false)
  | 10 => ("CurtainRiggersModel", "line", "[C", true)
  | 11 => ("CurtainRiggersModel", "lineMany", "I", false)
  | 12 => ("CurtainRiggersModel", "words", "[Ljava/lang/String;", true)
  | 13 => ("CurtainRiggersModel", "text", "[I", true)
  | 14 => ("CurtainRiggersModel", "length", "I", false)
  | 15 => ("CurtainRiggersModel", "place", "I", false)
  | 16 => ("CurtainRiggersModel", "isWrong", "Z", false)
  | 17 => ("CurtainRiggersModel", "error", "I", false)
  | 18 => ("CurtainRiggersModel", "refused", "I", false)
  | 19 => ("CurtainRiggersModel", "items", "[I", true)
  | _ => ("CurtainRiggersModel", "itemMany", "I", false)
def tyX4 : Nat → FieldType := fun k => match k with
  | 0 => .array .int
  | 1 => .array .int
  | 2 => .array .int
  | 3 => .array .int
  | 4 => .boolean
  | 5 => .array .int
  | 6 => .int
  | 7 => .int
  | 8 => .int
  | 9 => .int
  | 10 => .array .char
  | 11 => .int
  | 12 => .array (.object "java/lang/String")
  | 13 => .array .int
  | 14 => .int
  | 15 => .int
  | 16 => .boolean
  | 17 => .int
  | 18 => .int
  | 19 => .array .int
  | _ => .int
abbrev wsX40 : List Cond := u_ws RX4 TX4 21
set_option maxRecDepth 100000 in
theorem nmX4 : ∀ a, a < 21 → ∀ b, b < 21 → a ≠ b → (TX4 a).2.1 ≠ (TX4 b).2.1 := by decide +kernel
set_option maxRecDepth 100000 in
theorem tyX4_ok : ∀ k, k < 21 → parseFieldDescriptor (TX4 k).2.2.1 = some (tyX4 k) := by decide +kernel
abbrev cX4_init : ByteArray := prog_21_method_1_code
def yX4_init : MethodName := ⟨RX4, "<init>", "()V"⟩
def dkwX4_init_6 : List UInt8 := [42, 182, 0, 66, 177]
abbrev dktX4_init_6 : List UInt8 := dkwX4_init_6 ++ []
def dkwX4_init_5 : List UInt8 := [188, 10, 181, 0, 53, 42, 2, 181, 0, 56, 42, 2, 181, 0, 60, 42, 17, 0, 180, 188, 10, 181, 0, 63]
abbrev dktX4_init_5 : List UInt8 := dkwX4_init_5 ++ dktX4_init_6
def dkwX4_init_4 : List UInt8 := [89, 16, 6, 18, 43, 83, 89, 16, 7, 18, 45, 83, 89, 16, 8, 18, 47, 83, 181, 0, 49, 42, 16, 60]
abbrev dktX4_init_4 : List UInt8 := dkwX4_init_4 ++ dktX4_init_5
def dkwX4_init_3 : List UInt8 := [4, 18, 33, 83, 89, 5, 18, 35, 83, 89, 6, 18, 37, 83, 89, 7, 18, 39, 83, 89, 8, 18, 41, 83]
abbrev dktX4_init_3 : List UInt8 := dkwX4_init_3 ++ dktX4_init_4
def dkwX4_init_2 : List UInt8 := [181, 0, 22, 42, 17, 0, 200, 188, 5, 181, 0, 25, 42, 16, 9, 189, 0, 29, 89, 3, 18, 31, 83, 89]
abbrev dktX4_init_2 : List UInt8 := dkwX4_init_2 ++ dktX4_init_3
def dkwX4_init_1 : List UInt8 := [17, 0, 131, 188, 10, 181, 0, 16, 42, 17, 0, 131, 188, 10, 181, 0, 19, 42, 17, 4, 24, 188, 10]
abbrev dktX4_init_1 : List UInt8 := dkwX4_init_1 ++ dktX4_init_2
def dkwX4_init_0 : List UInt8 := [42, 183, 0, 3, 42, 17, 0, 131, 188, 10, 181, 0, 9, 42, 17, 0, 131, 188, 10, 181, 0, 13, 42]
abbrev dktX4_init_0 : List UInt8 := dkwX4_init_0 ++ dktX4_init_1
theorem dksX4_init_0 : cX4_init.data.toList.drop 0 = dktX4_init_0 := by decide +kernel
theorem dksX4_init_1 : cX4_init.data.toList.drop 23 = dktX4_init_1 := dk_seg dksX4_init_0 23 rfl rfl
theorem dksX4_init_2 : cX4_init.data.toList.drop 46 = dktX4_init_2 := dk_seg dksX4_init_1 23 rfl rfl
theorem dksX4_init_3 : cX4_init.data.toList.drop 70 = dktX4_init_3 := dk_seg dksX4_init_2 24 rfl rfl
theorem dksX4_init_4 : cX4_init.data.toList.drop 94 = dktX4_init_4 := dk_seg dksX4_init_3 24 rfl rfl
theorem dksX4_init_5 : cX4_init.data.toList.drop 118 = dktX4_init_5 := dk_seg dksX4_init_4 24 rfl rfl
theorem dksX4_init_6 : cX4_init.data.toList.drop 142 = dktX4_init_6 := dk_seg dksX4_init_5 24 rfl rfl
theorem dX4_init_0 : decode cX4_init 0 = .ok (.aload_n 0, 1) := dk_42 (dk_at dksX4_init_0 0 rfl rfl)
theorem dX4_init_1 : decode cX4_init 1 = .ok (.invokespecial 3, 3) := dk_183 0 3 (dk_at dksX4_init_0 1 rfl rfl)
theorem dX4_init_4 : decode cX4_init 4 = .ok (.aload_n 0, 1) := dk_42 (dk_at dksX4_init_0 4 rfl rfl)
theorem dX4_init_5 : decode cX4_init 5 = .ok (.sipush 131, 3) := dk_17 0 131 (dk_at dksX4_init_0 5 rfl rfl)
theorem dX4_init_8 : decode cX4_init 8 = .ok (.newarray .int, 2) := dk_188_10 (dk_at dksX4_init_0 8 rfl rfl)
theorem dX4_init_10 : decode cX4_init 10 = .ok (.putfield 9, 3) := dk_181 0 9 (dk_at dksX4_init_0 10 rfl rfl)
theorem dX4_init_13 : decode cX4_init 13 = .ok (.aload_n 0, 1) := dk_42 (dk_at dksX4_init_0 13 rfl rfl)
theorem dX4_init_14 : decode cX4_init 14 = .ok (.sipush 131, 3) := dk_17 0 131 (dk_at dksX4_init_0 14 rfl rfl)
theorem dX4_init_17 : decode cX4_init 17 = .ok (.newarray .int, 2) := dk_188_10 (dk_at dksX4_init_0 17 rfl rfl)
theorem dX4_init_19 : decode cX4_init 19 = .ok (.putfield 13, 3) := dk_181 0 13 (dk_at dksX4_init_0 19 rfl rfl)
theorem dX4_init_22 : decode cX4_init 22 = .ok (.aload_n 0, 1) := dk_42 (dk_at dksX4_init_0 22 rfl rfl)
theorem dX4_init_23 : decode cX4_init 23 = .ok (.sipush 131, 3) := dk_17 0 131 (dk_at dksX4_init_1 0 rfl rfl)
theorem dX4_init_26 : decode cX4_init 26 = .ok (.newarray .int, 2) := dk_188_10 (dk_at dksX4_init_1 3 rfl rfl)
theorem dX4_init_28 : decode cX4_init 28 = .ok (.putfield 16, 3) := dk_181 0 16 (dk_at dksX4_init_1 5 rfl rfl)
theorem dX4_init_31 : decode cX4_init 31 = .ok (.aload_n 0, 1) := dk_42 (dk_at dksX4_init_1 8 rfl rfl)
theorem dX4_init_32 : decode cX4_init 32 = .ok (.sipush 131, 3) := dk_17 0 131 (dk_at dksX4_init_1 9 rfl rfl)
theorem dX4_init_35 : decode cX4_init 35 = .ok (.newarray .int, 2) := dk_188_10 (dk_at dksX4_init_1 12 rfl rfl)
theorem dX4_init_37 : decode cX4_init 37 = .ok (.putfield 19, 3) := dk_181 0 19 (dk_at dksX4_init_1 14 rfl rfl)
theorem dX4_init_40 : decode cX4_init 40 = .ok (.aload_n 0, 1) := dk_42 (dk_at dksX4_init_1 17 rfl rfl)
theorem dX4_init_41 : decode cX4_init 41 = .ok (.sipush 1048, 3) := dk_17 4 24 (dk_at dksX4_init_1 18 rfl rfl)
theorem dX4_init_44 : decode cX4_init 44 = .ok (.newarray .int, 2) := dk_188_10 (dk_at dksX4_init_1 21 rfl rfl)
theorem dX4_init_46 : decode cX4_init 46 = .ok (.putfield 22, 3) := dk_181 0 22 (dk_at dksX4_init_2 0 rfl rfl)
theorem dX4_init_49 : decode cX4_init 49 = .ok (.aload_n 0, 1) := dk_42 (dk_at dksX4_init_2 3 rfl rfl)
theorem dX4_init_50 : decode cX4_init 50 = .ok (.sipush 200, 3) := dk_17 0 200 (dk_at dksX4_init_2 4 rfl rfl)
theorem dX4_init_53 : decode cX4_init 53 = .ok (.newarray .char, 2) := dk_188_5 (dk_at dksX4_init_2 7 rfl rfl)
theorem dX4_init_55 : decode cX4_init 55 = .ok (.putfield 25, 3) := dk_181 0 25 (dk_at dksX4_init_2 9 rfl rfl)
theorem dX4_init_58 : decode cX4_init 58 = .ok (.aload_n 0, 1) := dk_42 (dk_at dksX4_init_2 12 rfl rfl)
theorem dX4_init_59 : decode cX4_init 59 = .ok (.bipush 9, 2) := dk_16 9 (dk_at dksX4_init_2 13 rfl rfl)
theorem dX4_init_61 : decode cX4_init 61 = .ok (.anewarray 29, 3) := dk_189 0 29 (dk_at dksX4_init_2 15 rfl rfl)
theorem dX4_init_64 : decode cX4_init 64 = .ok (.dup, 1) := dk_89 (dk_at dksX4_init_2 18 rfl rfl)
theorem dX4_init_65 : decode cX4_init 65 = .ok (.iconst 0, 1) := dk_3 (dk_at dksX4_init_2 19 rfl rfl)
theorem dX4_init_66 : decode cX4_init 66 = .ok (.ldc 31, 2) := dk_18 31 (dk_at dksX4_init_2 20 rfl rfl)
theorem dX4_init_68 : decode cX4_init 68 = .ok (.aastore, 1) := dk_83 (dk_at dksX4_init_2 22 rfl rfl)
theorem dX4_init_69 : decode cX4_init 69 = .ok (.dup, 1) := dk_89 (dk_at dksX4_init_2 23 rfl rfl)
theorem dX4_init_70 : decode cX4_init 70 = .ok (.iconst 1, 1) := dk_4 (dk_at dksX4_init_3 0 rfl rfl)
theorem dX4_init_71 : decode cX4_init 71 = .ok (.ldc 33, 2) := dk_18 33 (dk_at dksX4_init_3 1 rfl rfl)
theorem dX4_init_73 : decode cX4_init 73 = .ok (.aastore, 1) := dk_83 (dk_at dksX4_init_3 3 rfl rfl)
theorem dX4_init_74 : decode cX4_init 74 = .ok (.dup, 1) := dk_89 (dk_at dksX4_init_3 4 rfl rfl)
theorem dX4_init_75 : decode cX4_init 75 = .ok (.iconst 2, 1) := dk_5 (dk_at dksX4_init_3 5 rfl rfl)
theorem dX4_init_76 : decode cX4_init 76 = .ok (.ldc 35, 2) := dk_18 35 (dk_at dksX4_init_3 6 rfl rfl)
theorem dX4_init_78 : decode cX4_init 78 = .ok (.aastore, 1) := dk_83 (dk_at dksX4_init_3 8 rfl rfl)
theorem dX4_init_79 : decode cX4_init 79 = .ok (.dup, 1) := dk_89 (dk_at dksX4_init_3 9 rfl rfl)
theorem dX4_init_80 : decode cX4_init 80 = .ok (.iconst 3, 1) := dk_6 (dk_at dksX4_init_3 10 rfl rfl)
theorem dX4_init_81 : decode cX4_init 81 = .ok (.ldc 37, 2) := dk_18 37 (dk_at dksX4_init_3 11 rfl rfl)
theorem dX4_init_83 : decode cX4_init 83 = .ok (.aastore, 1) := dk_83 (dk_at dksX4_init_3 13 rfl rfl)
theorem dX4_init_84 : decode cX4_init 84 = .ok (.dup, 1) := dk_89 (dk_at dksX4_init_3 14 rfl rfl)
theorem dX4_init_85 : decode cX4_init 85 = .ok (.iconst 4, 1) := dk_7 (dk_at dksX4_init_3 15 rfl rfl)
theorem dX4_init_86 : decode cX4_init 86 = .ok (.ldc 39, 2) := dk_18 39 (dk_at dksX4_init_3 16 rfl rfl)
theorem dX4_init_88 : decode cX4_init 88 = .ok (.aastore, 1) := dk_83 (dk_at dksX4_init_3 18 rfl rfl)
theorem dX4_init_89 : decode cX4_init 89 = .ok (.dup, 1) := dk_89 (dk_at dksX4_init_3 19 rfl rfl)
theorem dX4_init_90 : decode cX4_init 90 = .ok (.iconst 5, 1) := dk_8 (dk_at dksX4_init_3 20 rfl rfl)
theorem dX4_init_91 : decode cX4_init 91 = .ok (.ldc 41, 2) := dk_18 41 (dk_at dksX4_init_3 21 rfl rfl)
theorem dX4_init_93 : decode cX4_init 93 = .ok (.aastore, 1) := dk_83 (dk_at dksX4_init_3 23 rfl rfl)
theorem dX4_init_94 : decode cX4_init 94 = .ok (.dup, 1) := dk_89 (dk_at dksX4_init_4 0 rfl rfl)
theorem dX4_init_95 : decode cX4_init 95 = .ok (.bipush 6, 2) := dk_16 6 (dk_at dksX4_init_4 1 rfl rfl)
theorem dX4_init_97 : decode cX4_init 97 = .ok (.ldc 43, 2) := dk_18 43 (dk_at dksX4_init_4 3 rfl rfl)
theorem dX4_init_99 : decode cX4_init 99 = .ok (.aastore, 1) := dk_83 (dk_at dksX4_init_4 5 rfl rfl)
theorem dX4_init_100 : decode cX4_init 100 = .ok (.dup, 1) := dk_89 (dk_at dksX4_init_4 6 rfl rfl)
theorem dX4_init_101 : decode cX4_init 101 = .ok (.bipush 7, 2) := dk_16 7 (dk_at dksX4_init_4 7 rfl rfl)
theorem dX4_init_103 : decode cX4_init 103 = .ok (.ldc 45, 2) := dk_18 45 (dk_at dksX4_init_4 9 rfl rfl)
theorem dX4_init_105 : decode cX4_init 105 = .ok (.aastore, 1) := dk_83 (dk_at dksX4_init_4 11 rfl rfl)
theorem dX4_init_106 : decode cX4_init 106 = .ok (.dup, 1) := dk_89 (dk_at dksX4_init_4 12 rfl rfl)
theorem dX4_init_107 : decode cX4_init 107 = .ok (.bipush 8, 2) := dk_16 8 (dk_at dksX4_init_4 13 rfl rfl)
theorem dX4_init_109 : decode cX4_init 109 = .ok (.ldc 47, 2) := dk_18 47 (dk_at dksX4_init_4 15 rfl rfl)
theorem dX4_init_111 : decode cX4_init 111 = .ok (.aastore, 1) := dk_83 (dk_at dksX4_init_4 17 rfl rfl)
theorem dX4_init_112 : decode cX4_init 112 = .ok (.putfield 49, 3) := dk_181 0 49 (dk_at dksX4_init_4 18 rfl rfl)
theorem dX4_init_115 : decode cX4_init 115 = .ok (.aload_n 0, 1) := dk_42 (dk_at dksX4_init_4 21 rfl rfl)
theorem dX4_init_116 : decode cX4_init 116 = .ok (.bipush 60, 2) := dk_16 60 (dk_at dksX4_init_4 22 rfl rfl)
theorem dX4_init_118 : decode cX4_init 118 = .ok (.newarray .int, 2) := dk_188_10 (dk_at dksX4_init_5 0 rfl rfl)
theorem dX4_init_120 : decode cX4_init 120 = .ok (.putfield 53, 3) := dk_181 0 53 (dk_at dksX4_init_5 2 rfl rfl)
theorem dX4_init_123 : decode cX4_init 123 = .ok (.aload_n 0, 1) := dk_42 (dk_at dksX4_init_5 5 rfl rfl)
theorem dX4_init_124 : decode cX4_init 124 = .ok (.iconst (-1), 1) := dk_2 (dk_at dksX4_init_5 6 rfl rfl)
theorem dX4_init_125 : decode cX4_init 125 = .ok (.putfield 56, 3) := dk_181 0 56 (dk_at dksX4_init_5 7 rfl rfl)
theorem dX4_init_128 : decode cX4_init 128 = .ok (.aload_n 0, 1) := dk_42 (dk_at dksX4_init_5 10 rfl rfl)
theorem dX4_init_129 : decode cX4_init 129 = .ok (.iconst (-1), 1) := dk_2 (dk_at dksX4_init_5 11 rfl rfl)
theorem dX4_init_130 : decode cX4_init 130 = .ok (.putfield 60, 3) := dk_181 0 60 (dk_at dksX4_init_5 12 rfl rfl)
theorem dX4_init_133 : decode cX4_init 133 = .ok (.aload_n 0, 1) := dk_42 (dk_at dksX4_init_5 15 rfl rfl)
theorem dX4_init_134 : decode cX4_init 134 = .ok (.sipush 180, 3) := dk_17 0 180 (dk_at dksX4_init_5 16 rfl rfl)
theorem dX4_init_137 : decode cX4_init 137 = .ok (.newarray .int, 2) := dk_188_10 (dk_at dksX4_init_5 19 rfl rfl)
theorem dX4_init_139 : decode cX4_init 139 = .ok (.putfield 63, 3) := dk_181 0 63 (dk_at dksX4_init_5 21 rfl rfl)
theorem dX4_init_142 : decode cX4_init 142 = .ok (.aload_n 0, 1) := dk_42 (dk_at dksX4_init_6 0 rfl rfl)
theorem dX4_init_143 : decode cX4_init 143 = .ok (.invokevirtual 66, 3) := dk_182 0 66 (dk_at dksX4_init_6 1 rfl rfl)
theorem dX4_init_146 : decode cX4_init 146 = .ok (.return_, 1) := dk_177 (dk_at dksX4_init_6 4 rfl rfl)
abbrev cX4_empties : ByteArray := prog_21_method_2_code
def yX4_empties : MethodName := ⟨RX4, "empties", "()V"⟩
def dkwX4_empties_2 : List UInt8 := [177]
abbrev dktX4_empties_2 : List UInt8 := dkwX4_empties_2 ++ []
def dkwX4_empties_1 : List UInt8 := [180, 0, 9, 8, 16, 15, 79, 42, 180, 0, 9, 16, 6, 16, 40, 79, 42, 180, 0, 9, 16, 7, 2, 79]
abbrev dktX4_empties_1 : List UInt8 := dkwX4_empties_1 ++ dktX4_empties_2
def dkwX4_empties_0 : List UInt8 := [3, 60, 27, 17, 0, 131, 162, 0, 16, 42, 180, 0, 9, 27, 3, 79, 132, 1, 1, 167, 255, 239, 42]
abbrev dktX4_empties_0 : List UInt8 := dkwX4_empties_0 ++ dktX4_empties_1
theorem dksX4_empties_0 : cX4_empties.data.toList.drop 0 = dktX4_empties_0 := by decide +kernel
theorem dksX4_empties_1 : cX4_empties.data.toList.drop 23 = dktX4_empties_1 := dk_seg dksX4_empties_0 23 rfl rfl
theorem dksX4_empties_2 : cX4_empties.data.toList.drop 47 = dktX4_empties_2 := dk_seg dksX4_empties_1 24 rfl rfl
theorem dX4_empties_0 : decode cX4_empties 0 = .ok (.iconst 0, 1) := dk_3 (dk_at dksX4_empties_0 0 rfl rfl)
theorem dX4_empties_1 : decode cX4_empties 1 = .ok (.istore_n 1, 1) := dk_60 (dk_at dksX4_empties_0 1 rfl rfl)
theorem dX4_empties_2 : decode cX4_empties 2 = .ok (.iload_n 1, 1) := dk_27 (dk_at dksX4_empties_0 2 rfl rfl)
theorem dX4_empties_3 : decode cX4_empties 3 = .ok (.sipush 131, 3) := dk_17 0 131 (dk_at dksX4_empties_0 3 rfl rfl)
theorem dX4_empties_6 : decode cX4_empties 6 = .ok (.if_icmp .ge 16, 3) := dk_162 0 16 (dk_at dksX4_empties_0 6 rfl rfl)
theorem dX4_empties_9 : decode cX4_empties 9 = .ok (.aload_n 0, 1) := dk_42 (dk_at dksX4_empties_0 9 rfl rfl)
theorem dX4_empties_10 : decode cX4_empties 10 = .ok (.getfield 9, 3) := dk_180 0 9 (dk_at dksX4_empties_0 10 rfl rfl)
theorem dX4_empties_13 : decode cX4_empties 13 = .ok (.iload_n 1, 1) := dk_27 (dk_at dksX4_empties_0 13 rfl rfl)
theorem dX4_empties_14 : decode cX4_empties 14 = .ok (.iconst 0, 1) := dk_3 (dk_at dksX4_empties_0 14 rfl rfl)
theorem dX4_empties_15 : decode cX4_empties 15 = .ok (.iastore, 1) := dk_79 (dk_at dksX4_empties_0 15 rfl rfl)
theorem dX4_empties_16 : decode cX4_empties 16 = .ok (.iinc 1 1, 3) := dk_132 1 1 (dk_at dksX4_empties_0 16 rfl rfl)
theorem dX4_empties_19 : decode cX4_empties 19 = .ok (.goto (-17), 3) := dk_167 255 239 (dk_at dksX4_empties_0 19 rfl rfl)
theorem dX4_empties_22 : decode cX4_empties 22 = .ok (.aload_n 0, 1) := dk_42 (dk_at dksX4_empties_0 22 rfl rfl)
theorem dX4_empties_23 : decode cX4_empties 23 = .ok (.getfield 9, 3) := dk_180 0 9 (dk_at dksX4_empties_1 0 rfl rfl)
theorem dX4_empties_26 : decode cX4_empties 26 = .ok (.iconst 5, 1) := dk_8 (dk_at dksX4_empties_1 3 rfl rfl)
theorem dX4_empties_27 : decode cX4_empties 27 = .ok (.bipush 15, 2) := dk_16 15 (dk_at dksX4_empties_1 4 rfl rfl)
theorem dX4_empties_29 : decode cX4_empties 29 = .ok (.iastore, 1) := dk_79 (dk_at dksX4_empties_1 6 rfl rfl)
theorem dX4_empties_30 : decode cX4_empties 30 = .ok (.aload_n 0, 1) := dk_42 (dk_at dksX4_empties_1 7 rfl rfl)
theorem dX4_empties_31 : decode cX4_empties 31 = .ok (.getfield 9, 3) := dk_180 0 9 (dk_at dksX4_empties_1 8 rfl rfl)
theorem dX4_empties_34 : decode cX4_empties 34 = .ok (.bipush 6, 2) := dk_16 6 (dk_at dksX4_empties_1 11 rfl rfl)
theorem dX4_empties_36 : decode cX4_empties 36 = .ok (.bipush 40, 2) := dk_16 40 (dk_at dksX4_empties_1 13 rfl rfl)
theorem dX4_empties_38 : decode cX4_empties 38 = .ok (.iastore, 1) := dk_79 (dk_at dksX4_empties_1 15 rfl rfl)
theorem dX4_empties_39 : decode cX4_empties 39 = .ok (.aload_n 0, 1) := dk_42 (dk_at dksX4_empties_1 16 rfl rfl)
theorem dX4_empties_40 : decode cX4_empties 40 = .ok (.getfield 9, 3) := dk_180 0 9 (dk_at dksX4_empties_1 17 rfl rfl)
theorem dX4_empties_43 : decode cX4_empties 43 = .ok (.bipush 7, 2) := dk_16 7 (dk_at dksX4_empties_1 20 rfl rfl)
theorem dX4_empties_45 : decode cX4_empties 45 = .ok (.iconst (-1), 1) := dk_2 (dk_at dksX4_empties_1 22 rfl rfl)
theorem dX4_empties_46 : decode cX4_empties 46 = .ok (.iastore, 1) := dk_79 (dk_at dksX4_empties_1 23 rfl rfl)
theorem dX4_empties_47 : decode cX4_empties 47 = .ok (.return_, 1) := dk_177 (dk_at dksX4_empties_2 0 rfl rfl)
abbrev cX4_thrown : ByteArray := prog_21_method_3_code
def yX4_thrown : MethodName := ⟨RX4, "thrown", "()I"⟩
theorem dX4_thrown_0 : decode cX4_thrown 0 = .ok (.aload_n 0, 1) := by decide +kernel
theorem dX4_thrown_1 : decode cX4_thrown 1 = .ok (.getfield 69, 3) := by decide +kernel
theorem dX4_thrown_4 : decode cX4_thrown 4 = .ok (.ireturn, 1) := by decide +kernel
abbrev cX4_refusal : ByteArray := prog_21_method_9_code
def yX4_refusal : MethodName := ⟨RX4, "refusal", "(Z)I"⟩
def dkwX4_refusal_1 : List UInt8 := [167, 0, 18, 27, 153, 0, 10, 42, 180, 0, 84, 167, 0, 7, 42, 180, 0, 81, 172]
abbrev dktX4_refusal_1 : List UInt8 := dkwX4_refusal_1 ++ []
def dkwX4_refusal_0 : List UInt8 := [42, 42, 180, 0, 81, 154, 0, 7, 4, 167, 0, 4, 3, 181, 0, 69, 42, 180, 0, 69, 158, 0, 7, 3]
abbrev dktX4_refusal_0 : List UInt8 := dkwX4_refusal_0 ++ dktX4_refusal_1
theorem dksX4_refusal_0 : cX4_refusal.data.toList.drop 0 = dktX4_refusal_0 := by decide +kernel
theorem dksX4_refusal_1 : cX4_refusal.data.toList.drop 24 = dktX4_refusal_1 := dk_seg dksX4_refusal_0 24 rfl rfl
theorem dX4_refusal_0 : decode cX4_refusal 0 = .ok (.aload_n 0, 1) := dk_42 (dk_at dksX4_refusal_0 0 rfl rfl)
theorem dX4_refusal_1 : decode cX4_refusal 1 = .ok (.aload_n 0, 1) := dk_42 (dk_at dksX4_refusal_0 1 rfl rfl)
theorem dX4_refusal_2 : decode cX4_refusal 2 = .ok (.getfield 81, 3) := dk_180 0 81 (dk_at dksX4_refusal_0 2 rfl rfl)
theorem dX4_refusal_5 : decode cX4_refusal 5 = .ok (.ifCond .ne 7, 3) := dk_154 0 7 (dk_at dksX4_refusal_0 5 rfl rfl)
theorem dX4_refusal_8 : decode cX4_refusal 8 = .ok (.iconst 1, 1) := dk_4 (dk_at dksX4_refusal_0 8 rfl rfl)
theorem dX4_refusal_9 : decode cX4_refusal 9 = .ok (.goto 4, 3) := dk_167 0 4 (dk_at dksX4_refusal_0 9 rfl rfl)
theorem dX4_refusal_12 : decode cX4_refusal 12 = .ok (.iconst 0, 1) := dk_3 (dk_at dksX4_refusal_0 12 rfl rfl)
theorem dX4_refusal_13 : decode cX4_refusal 13 = .ok (.putfield 69, 3) := dk_181 0 69 (dk_at dksX4_refusal_0 13 rfl rfl)
theorem dX4_refusal_16 : decode cX4_refusal 16 = .ok (.aload_n 0, 1) := dk_42 (dk_at dksX4_refusal_0 16 rfl rfl)
theorem dX4_refusal_17 : decode cX4_refusal 17 = .ok (.getfield 69, 3) := dk_180 0 69 (dk_at dksX4_refusal_0 17 rfl rfl)
theorem dX4_refusal_20 : decode cX4_refusal 20 = .ok (.ifCond .le 7, 3) := dk_158 0 7 (dk_at dksX4_refusal_0 20 rfl rfl)
theorem dX4_refusal_23 : decode cX4_refusal 23 = .ok (.iconst 0, 1) := dk_3 (dk_at dksX4_refusal_0 23 rfl rfl)
theorem dX4_refusal_24 : decode cX4_refusal 24 = .ok (.goto 18, 3) := dk_167 0 18 (dk_at dksX4_refusal_1 0 rfl rfl)
theorem dX4_refusal_27 : decode cX4_refusal 27 = .ok (.iload_n 1, 1) := dk_27 (dk_at dksX4_refusal_1 3 rfl rfl)
theorem dX4_refusal_28 : decode cX4_refusal 28 = .ok (.ifCond .eq 10, 3) := dk_153 0 10 (dk_at dksX4_refusal_1 4 rfl rfl)
theorem dX4_refusal_31 : decode cX4_refusal 31 = .ok (.aload_n 0, 1) := dk_42 (dk_at dksX4_refusal_1 7 rfl rfl)
theorem dX4_refusal_32 : decode cX4_refusal 32 = .ok (.getfield 84, 3) := dk_180 0 84 (dk_at dksX4_refusal_1 8 rfl rfl)
theorem dX4_refusal_35 : decode cX4_refusal 35 = .ok (.goto 7, 3) := dk_167 0 7 (dk_at dksX4_refusal_1 11 rfl rfl)
theorem dX4_refusal_38 : decode cX4_refusal 38 = .ok (.aload_n 0, 1) := dk_42 (dk_at dksX4_refusal_1 14 rfl rfl)
theorem dX4_refusal_39 : decode cX4_refusal 39 = .ok (.getfield 81, 3) := dk_180 0 81 (dk_at dksX4_refusal_1 15 rfl rfl)
theorem dX4_refusal_42 : decode cX4_refusal 42 = .ok (.ireturn, 1) := dk_172 (dk_at dksX4_refusal_1 18 rfl rfl)
abbrev cX4_clear : ByteArray := prog_21_method_10_code
def yX4_clear : MethodName := ⟨RX4, "clear", "()I"⟩
def dkwX4_clear_0 : List UInt8 := [42, 3, 181, 0, 69, 42, 180, 0, 9, 7, 46, 60, 42, 182, 0, 66, 42, 3, 181, 0, 78, 27, 172]
abbrev dktX4_clear_0 : List UInt8 := dkwX4_clear_0 ++ []
theorem dksX4_clear_0 : cX4_clear.data.toList.drop 0 = dktX4_clear_0 := by decide +kernel
theorem dX4_clear_0 : decode cX4_clear 0 = .ok (.aload_n 0, 1) := dk_42 (dk_at dksX4_clear_0 0 rfl rfl)
theorem dX4_clear_1 : decode cX4_clear 1 = .ok (.iconst 0, 1) := dk_3 (dk_at dksX4_clear_0 1 rfl rfl)
theorem dX4_clear_2 : decode cX4_clear 2 = .ok (.putfield 69, 3) := dk_181 0 69 (dk_at dksX4_clear_0 2 rfl rfl)
theorem dX4_clear_5 : decode cX4_clear 5 = .ok (.aload_n 0, 1) := dk_42 (dk_at dksX4_clear_0 5 rfl rfl)
theorem dX4_clear_6 : decode cX4_clear 6 = .ok (.getfield 9, 3) := dk_180 0 9 (dk_at dksX4_clear_0 6 rfl rfl)
theorem dX4_clear_9 : decode cX4_clear 9 = .ok (.iconst 4, 1) := dk_7 (dk_at dksX4_clear_0 9 rfl rfl)
theorem dX4_clear_10 : decode cX4_clear 10 = .ok (.iaload, 1) := dk_46 (dk_at dksX4_clear_0 10 rfl rfl)
theorem dX4_clear_11 : decode cX4_clear 11 = .ok (.istore_n 1, 1) := dk_60 (dk_at dksX4_clear_0 11 rfl rfl)
theorem dX4_clear_12 : decode cX4_clear 12 = .ok (.aload_n 0, 1) := dk_42 (dk_at dksX4_clear_0 12 rfl rfl)
theorem dX4_clear_13 : decode cX4_clear 13 = .ok (.invokevirtual 66, 3) := dk_182 0 66 (dk_at dksX4_clear_0 13 rfl rfl)
theorem dX4_clear_16 : decode cX4_clear 16 = .ok (.aload_n 0, 1) := dk_42 (dk_at dksX4_clear_0 16 rfl rfl)
theorem dX4_clear_17 : decode cX4_clear 17 = .ok (.iconst 0, 1) := dk_3 (dk_at dksX4_clear_0 17 rfl rfl)
theorem dX4_clear_18 : decode cX4_clear 18 = .ok (.putfield 78, 3) := dk_181 0 78 (dk_at dksX4_clear_0 18 rfl rfl)
theorem dX4_clear_21 : decode cX4_clear 21 = .ok (.iload_n 1, 1) := dk_27 (dk_at dksX4_clear_0 21 rfl rfl)
theorem dX4_clear_22 : decode cX4_clear 22 = .ok (.ireturn, 1) := dk_172 (dk_at dksX4_clear_0 22 rfl rfl)
abbrev cX4_told : ByteArray := prog_21_method_22_code
def yX4_told : MethodName := ⟨RX4, "told", "(I)I"⟩
def dkwX4_told_1 : List UInt8 := [182, 0, 119, 172, 42, 180, 0, 9, 8, 27, 79, 42, 28, 182, 0, 122, 172]
abbrev dktX4_told_1 : List UInt8 := dkwX4_told_1 ++ []
def dkwX4_told_0 : List UInt8 := [42, 182, 0, 116, 42, 180, 0, 9, 8, 46, 61, 27, 3, 16, 40, 184, 0, 87, 154, 0, 9, 42, 4]
abbrev dktX4_told_0 : List UInt8 := dkwX4_told_0 ++ dktX4_told_1
theorem dksX4_told_0 : cX4_told.data.toList.drop 0 = dktX4_told_0 := by decide +kernel
theorem dksX4_told_1 : cX4_told.data.toList.drop 23 = dktX4_told_1 := dk_seg dksX4_told_0 23 rfl rfl
theorem dX4_told_0 : decode cX4_told 0 = .ok (.aload_n 0, 1) := dk_42 (dk_at dksX4_told_0 0 rfl rfl)
theorem dX4_told_1 : decode cX4_told 1 = .ok (.invokevirtual 116, 3) := dk_182 0 116 (dk_at dksX4_told_0 1 rfl rfl)
theorem dX4_told_4 : decode cX4_told 4 = .ok (.aload_n 0, 1) := dk_42 (dk_at dksX4_told_0 4 rfl rfl)
theorem dX4_told_5 : decode cX4_told 5 = .ok (.getfield 9, 3) := dk_180 0 9 (dk_at dksX4_told_0 5 rfl rfl)
theorem dX4_told_8 : decode cX4_told 8 = .ok (.iconst 5, 1) := dk_8 (dk_at dksX4_told_0 8 rfl rfl)
theorem dX4_told_9 : decode cX4_told 9 = .ok (.iaload, 1) := dk_46 (dk_at dksX4_told_0 9 rfl rfl)
theorem dX4_told_10 : decode cX4_told 10 = .ok (.istore_n 2, 1) := dk_61 (dk_at dksX4_told_0 10 rfl rfl)
theorem dX4_told_11 : decode cX4_told 11 = .ok (.iload_n 1, 1) := dk_27 (dk_at dksX4_told_0 11 rfl rfl)
theorem dX4_told_12 : decode cX4_told 12 = .ok (.iconst 0, 1) := dk_3 (dk_at dksX4_told_0 12 rfl rfl)
theorem dX4_told_13 : decode cX4_told 13 = .ok (.bipush 40, 2) := dk_16 40 (dk_at dksX4_told_0 13 rfl rfl)
theorem dX4_told_15 : decode cX4_told 15 = .ok (.invokestatic 87, 3) := dk_184 0 87 (dk_at dksX4_told_0 15 rfl rfl)
theorem dX4_told_18 : decode cX4_told 18 = .ok (.ifCond .ne 9, 3) := dk_154 0 9 (dk_at dksX4_told_0 18 rfl rfl)
theorem dX4_told_21 : decode cX4_told 21 = .ok (.aload_n 0, 1) := dk_42 (dk_at dksX4_told_0 21 rfl rfl)
theorem dX4_told_22 : decode cX4_told 22 = .ok (.iconst 1, 1) := dk_4 (dk_at dksX4_told_0 22 rfl rfl)
theorem dX4_told_23 : decode cX4_told 23 = .ok (.invokevirtual 119, 3) := dk_182 0 119 (dk_at dksX4_told_1 0 rfl rfl)
theorem dX4_told_26 : decode cX4_told 26 = .ok (.ireturn, 1) := dk_172 (dk_at dksX4_told_1 3 rfl rfl)
theorem dX4_told_27 : decode cX4_told 27 = .ok (.aload_n 0, 1) := dk_42 (dk_at dksX4_told_1 4 rfl rfl)
theorem dX4_told_28 : decode cX4_told 28 = .ok (.getfield 9, 3) := dk_180 0 9 (dk_at dksX4_told_1 5 rfl rfl)
theorem dX4_told_31 : decode cX4_told 31 = .ok (.iconst 5, 1) := dk_8 (dk_at dksX4_told_1 8 rfl rfl)
theorem dX4_told_32 : decode cX4_told 32 = .ok (.iload_n 1, 1) := dk_27 (dk_at dksX4_told_1 9 rfl rfl)
theorem dX4_told_33 : decode cX4_told 33 = .ok (.iastore, 1) := dk_79 (dk_at dksX4_told_1 10 rfl rfl)
theorem dX4_told_34 : decode cX4_told 34 = .ok (.aload_n 0, 1) := dk_42 (dk_at dksX4_told_1 11 rfl rfl)
theorem dX4_told_35 : decode cX4_told 35 = .ok (.iload_n 2, 1) := dk_28 (dk_at dksX4_told_1 12 rfl rfl)
theorem dX4_told_36 : decode cX4_told 36 = .ok (.invokevirtual 122, 3) := dk_182 0 122 (dk_at dksX4_told_1 13 rfl rfl)
theorem dX4_told_39 : decode cX4_told 39 = .ok (.ireturn, 1) := dk_172 (dk_at dksX4_told_1 16 rfl rfl)
abbrev cX4_keep : ByteArray := prog_21_method_5_code
def yX4_keep : MethodName := ⟨RX4, "keep", "()V"⟩
def dkwX4_keep_0 : List UInt8 := [42, 3, 181, 0, 69, 42, 180, 0, 9, 3, 42, 180, 0, 13, 3, 17, 0, 131, 184, 0, 72, 177]
abbrev dktX4_keep_0 : List UInt8 := dkwX4_keep_0 ++ []
theorem dksX4_keep_0 : cX4_keep.data.toList.drop 0 = dktX4_keep_0 := by decide +kernel
theorem dX4_keep_0 : decode cX4_keep 0 = .ok (.aload_n 0, 1) := dk_42 (dk_at dksX4_keep_0 0 rfl rfl)
theorem dX4_keep_1 : decode cX4_keep 1 = .ok (.iconst 0, 1) := dk_3 (dk_at dksX4_keep_0 1 rfl rfl)
theorem dX4_keep_2 : decode cX4_keep 2 = .ok (.putfield 69, 3) := dk_181 0 69 (dk_at dksX4_keep_0 2 rfl rfl)
theorem dX4_keep_5 : decode cX4_keep 5 = .ok (.aload_n 0, 1) := dk_42 (dk_at dksX4_keep_0 5 rfl rfl)
theorem dX4_keep_6 : decode cX4_keep 6 = .ok (.getfield 9, 3) := dk_180 0 9 (dk_at dksX4_keep_0 6 rfl rfl)
theorem dX4_keep_9 : decode cX4_keep 9 = .ok (.iconst 0, 1) := dk_3 (dk_at dksX4_keep_0 9 rfl rfl)
theorem dX4_keep_10 : decode cX4_keep 10 = .ok (.aload_n 0, 1) := dk_42 (dk_at dksX4_keep_0 10 rfl rfl)
theorem dX4_keep_11 : decode cX4_keep 11 = .ok (.getfield 13, 3) := dk_180 0 13 (dk_at dksX4_keep_0 11 rfl rfl)
theorem dX4_keep_14 : decode cX4_keep 14 = .ok (.iconst 0, 1) := dk_3 (dk_at dksX4_keep_0 14 rfl rfl)
theorem dX4_keep_15 : decode cX4_keep 15 = .ok (.sipush 131, 3) := dk_17 0 131 (dk_at dksX4_keep_0 15 rfl rfl)
theorem dX4_keep_18 : decode cX4_keep 18 = .ok (.invokestatic 72, 3) := dk_184 0 72 (dk_at dksX4_keep_0 18 rfl rfl)
theorem dX4_keep_21 : decode cX4_keep 21 = .ok (.return_, 1) := dk_177 (dk_at dksX4_keep_0 21 rfl rfl)
abbrev cX4_in : ByteArray := prog_21_method_4_code
def yX4_in : MethodName := ⟨RX4, "in", "(III)Z"⟩
def dkwX4_in_0 : List UInt8 := [26, 27, 161, 0, 12, 26, 28, 163, 0, 7, 4, 167, 0, 4, 3, 172]
abbrev dktX4_in_0 : List UInt8 := dkwX4_in_0 ++ []
theorem dksX4_in_0 : cX4_in.data.toList.drop 0 = dktX4_in_0 := by decide +kernel
theorem dX4_in_0 : decode cX4_in 0 = .ok (.iload_n 0, 1) := dk_26 (dk_at dksX4_in_0 0 rfl rfl)
theorem dX4_in_1 : decode cX4_in 1 = .ok (.iload_n 1, 1) := dk_27 (dk_at dksX4_in_0 1 rfl rfl)
theorem dX4_in_2 : decode cX4_in 2 = .ok (.if_icmp .lt 12, 3) := dk_161 0 12 (dk_at dksX4_in_0 2 rfl rfl)
theorem dX4_in_5 : decode cX4_in 5 = .ok (.iload_n 0, 1) := dk_26 (dk_at dksX4_in_0 5 rfl rfl)
theorem dX4_in_6 : decode cX4_in 6 = .ok (.iload_n 2, 1) := dk_28 (dk_at dksX4_in_0 6 rfl rfl)
theorem dX4_in_7 : decode cX4_in 7 = .ok (.if_icmp .gt 7, 3) := dk_163 0 7 (dk_at dksX4_in_0 7 rfl rfl)
theorem dX4_in_10 : decode cX4_in 10 = .ok (.iconst 1, 1) := dk_4 (dk_at dksX4_in_0 10 rfl rfl)
theorem dX4_in_11 : decode cX4_in 11 = .ok (.goto 4, 3) := dk_167 0 4 (dk_at dksX4_in_0 11 rfl rfl)
theorem dX4_in_14 : decode cX4_in 14 = .ok (.iconst 0, 1) := dk_3 (dk_at dksX4_in_0 14 rfl rfl)
theorem dX4_in_15 : decode cX4_in 15 = .ok (.ireturn, 1) := dk_172 (dk_at dksX4_in_0 15 rfl rfl)
abbrev cX4_fails : ByteArray := prog_21_method_7_code
def yX4_fails : MethodName := ⟨RX4, "fails", "(I)I"⟩
def dkwX4_fails_0 : List UInt8 := [42, 27, 181, 0, 69, 3, 172]
abbrev dktX4_fails_0 : List UInt8 := dkwX4_fails_0 ++ []
theorem dksX4_fails_0 : cX4_fails.data.toList.drop 0 = dktX4_fails_0 := by decide +kernel
theorem dX4_fails_0 : decode cX4_fails 0 = .ok (.aload_n 0, 1) := dk_42 (dk_at dksX4_fails_0 0 rfl rfl)
theorem dX4_fails_1 : decode cX4_fails 1 = .ok (.iload_n 1, 1) := dk_27 (dk_at dksX4_fails_0 1 rfl rfl)
theorem dX4_fails_2 : decode cX4_fails 2 = .ok (.putfield 69, 3) := dk_181 0 69 (dk_at dksX4_fails_0 2 rfl rfl)
theorem dX4_fails_5 : decode cX4_fails 5 = .ok (.iconst 0, 1) := dk_3 (dk_at dksX4_fails_0 5 rfl rfl)
theorem dX4_fails_6 : decode cX4_fails 6 = .ok (.ireturn, 1) := dk_172 (dk_at dksX4_fails_0 6 rfl rfl)
abbrev cX4_ends : ByteArray := prog_21_method_6_code
def yX4_ends : MethodName := ⟨RX4, "ends", "(I)I"⟩
def dkwX4_ends_4 : List UInt8 := [181, 0, 78, 27, 172]
abbrev dktX4_ends_4 : List UInt8 := dkwX4_ends_4 ++ []
def dkwX4_ends_3 : List UInt8 := [180, 0, 22, 17, 0, 131, 42, 180, 0, 78, 104, 17, 0, 131, 184, 0, 72, 42, 89, 180, 0, 78, 4, 96]
abbrev dktX4_ends_3 : List UInt8 := dkwX4_ends_3 ++ dktX4_ends_4
def dkwX4_ends_2 : List UInt8 := [17, 3, 149, 184, 0, 72, 42, 89, 180, 0, 78, 4, 100, 181, 0, 78, 42, 180, 0, 13, 3, 42]
abbrev dktX4_ends_2 : List UInt8 := dkwX4_ends_2 ++ dktX4_ends_3
def dkwX4_ends_1 : List UInt8 := [172, 42, 180, 0, 78, 16, 8, 160, 0, 31, 42, 180, 0, 22, 17, 0, 131, 42, 180, 0, 22, 3]
abbrev dktX4_ends_1 : List UInt8 := dkwX4_ends_1 ++ dktX4_ends_2
def dkwX4_ends_0 : List UInt8 := [42, 180, 0, 69, 158, 0, 21, 42, 180, 0, 13, 3, 42, 180, 0, 9, 3, 17, 0, 131, 184, 0, 72, 3]
abbrev dktX4_ends_0 : List UInt8 := dkwX4_ends_0 ++ dktX4_ends_1
theorem dksX4_ends_0 : cX4_ends.data.toList.drop 0 = dktX4_ends_0 := by decide +kernel
theorem dksX4_ends_1 : cX4_ends.data.toList.drop 24 = dktX4_ends_1 := dk_seg dksX4_ends_0 24 rfl rfl
theorem dksX4_ends_2 : cX4_ends.data.toList.drop 46 = dktX4_ends_2 := dk_seg dksX4_ends_1 22 rfl rfl
theorem dksX4_ends_3 : cX4_ends.data.toList.drop 68 = dktX4_ends_3 := dk_seg dksX4_ends_2 22 rfl rfl
theorem dksX4_ends_4 : cX4_ends.data.toList.drop 92 = dktX4_ends_4 := dk_seg dksX4_ends_3 24 rfl rfl
theorem dX4_ends_0 : decode cX4_ends 0 = .ok (.aload_n 0, 1) := dk_42 (dk_at dksX4_ends_0 0 rfl rfl)
theorem dX4_ends_1 : decode cX4_ends 1 = .ok (.getfield 69, 3) := dk_180 0 69 (dk_at dksX4_ends_0 1 rfl rfl)
theorem dX4_ends_4 : decode cX4_ends 4 = .ok (.ifCond .le 21, 3) := dk_158 0 21 (dk_at dksX4_ends_0 4 rfl rfl)
theorem dX4_ends_7 : decode cX4_ends 7 = .ok (.aload_n 0, 1) := dk_42 (dk_at dksX4_ends_0 7 rfl rfl)
theorem dX4_ends_8 : decode cX4_ends 8 = .ok (.getfield 13, 3) := dk_180 0 13 (dk_at dksX4_ends_0 8 rfl rfl)
theorem dX4_ends_11 : decode cX4_ends 11 = .ok (.iconst 0, 1) := dk_3 (dk_at dksX4_ends_0 11 rfl rfl)
theorem dX4_ends_12 : decode cX4_ends 12 = .ok (.aload_n 0, 1) := dk_42 (dk_at dksX4_ends_0 12 rfl rfl)
theorem dX4_ends_13 : decode cX4_ends 13 = .ok (.getfield 9, 3) := dk_180 0 9 (dk_at dksX4_ends_0 13 rfl rfl)
theorem dX4_ends_16 : decode cX4_ends 16 = .ok (.iconst 0, 1) := dk_3 (dk_at dksX4_ends_0 16 rfl rfl)
theorem dX4_ends_17 : decode cX4_ends 17 = .ok (.sipush 131, 3) := dk_17 0 131 (dk_at dksX4_ends_0 17 rfl rfl)
theorem dX4_ends_20 : decode cX4_ends 20 = .ok (.invokestatic 72, 3) := dk_184 0 72 (dk_at dksX4_ends_0 20 rfl rfl)
theorem dX4_ends_23 : decode cX4_ends 23 = .ok (.iconst 0, 1) := dk_3 (dk_at dksX4_ends_0 23 rfl rfl)
theorem dX4_ends_24 : decode cX4_ends 24 = .ok (.ireturn, 1) := dk_172 (dk_at dksX4_ends_1 0 rfl rfl)
theorem dX4_ends_25 : decode cX4_ends 25 = .ok (.aload_n 0, 1) := dk_42 (dk_at dksX4_ends_1 1 rfl rfl)
theorem dX4_ends_26 : decode cX4_ends 26 = .ok (.getfield 78, 3) := dk_180 0 78 (dk_at dksX4_ends_1 2 rfl rfl)
theorem dX4_ends_29 : decode cX4_ends 29 = .ok (.bipush 8, 2) := dk_16 8 (dk_at dksX4_ends_1 5 rfl rfl)
theorem dX4_ends_31 : decode cX4_ends 31 = .ok (.if_icmp .ne 31, 3) := dk_160 0 31 (dk_at dksX4_ends_1 7 rfl rfl)
theorem dX4_ends_34 : decode cX4_ends 34 = .ok (.aload_n 0, 1) := dk_42 (dk_at dksX4_ends_1 10 rfl rfl)
theorem dX4_ends_35 : decode cX4_ends 35 = .ok (.getfield 22, 3) := dk_180 0 22 (dk_at dksX4_ends_1 11 rfl rfl)
theorem dX4_ends_38 : decode cX4_ends 38 = .ok (.sipush 131, 3) := dk_17 0 131 (dk_at dksX4_ends_1 14 rfl rfl)
theorem dX4_ends_41 : decode cX4_ends 41 = .ok (.aload_n 0, 1) := dk_42 (dk_at dksX4_ends_1 17 rfl rfl)
theorem dX4_ends_42 : decode cX4_ends 42 = .ok (.getfield 22, 3) := dk_180 0 22 (dk_at dksX4_ends_1 18 rfl rfl)
theorem dX4_ends_45 : decode cX4_ends 45 = .ok (.iconst 0, 1) := dk_3 (dk_at dksX4_ends_1 21 rfl rfl)
theorem dX4_ends_46 : decode cX4_ends 46 = .ok (.sipush 917, 3) := dk_17 3 149 (dk_at dksX4_ends_2 0 rfl rfl)
theorem dX4_ends_49 : decode cX4_ends 49 = .ok (.invokestatic 72, 3) := dk_184 0 72 (dk_at dksX4_ends_2 3 rfl rfl)
theorem dX4_ends_52 : decode cX4_ends 52 = .ok (.aload_n 0, 1) := dk_42 (dk_at dksX4_ends_2 6 rfl rfl)
theorem dX4_ends_53 : decode cX4_ends 53 = .ok (.dup, 1) := dk_89 (dk_at dksX4_ends_2 7 rfl rfl)
theorem dX4_ends_54 : decode cX4_ends 54 = .ok (.getfield 78, 3) := dk_180 0 78 (dk_at dksX4_ends_2 8 rfl rfl)
theorem dX4_ends_57 : decode cX4_ends 57 = .ok (.iconst 1, 1) := dk_4 (dk_at dksX4_ends_2 11 rfl rfl)
theorem dX4_ends_58 : decode cX4_ends 58 = .ok (.isub, 1) := dk_100 (dk_at dksX4_ends_2 12 rfl rfl)
theorem dX4_ends_59 : decode cX4_ends 59 = .ok (.putfield 78, 3) := dk_181 0 78 (dk_at dksX4_ends_2 13 rfl rfl)
theorem dX4_ends_62 : decode cX4_ends 62 = .ok (.aload_n 0, 1) := dk_42 (dk_at dksX4_ends_2 16 rfl rfl)
theorem dX4_ends_63 : decode cX4_ends 63 = .ok (.getfield 13, 3) := dk_180 0 13 (dk_at dksX4_ends_2 17 rfl rfl)
theorem dX4_ends_66 : decode cX4_ends 66 = .ok (.iconst 0, 1) := dk_3 (dk_at dksX4_ends_2 20 rfl rfl)
theorem dX4_ends_67 : decode cX4_ends 67 = .ok (.aload_n 0, 1) := dk_42 (dk_at dksX4_ends_2 21 rfl rfl)
theorem dX4_ends_68 : decode cX4_ends 68 = .ok (.getfield 22, 3) := dk_180 0 22 (dk_at dksX4_ends_3 0 rfl rfl)
theorem dX4_ends_71 : decode cX4_ends 71 = .ok (.sipush 131, 3) := dk_17 0 131 (dk_at dksX4_ends_3 3 rfl rfl)
theorem dX4_ends_74 : decode cX4_ends 74 = .ok (.aload_n 0, 1) := dk_42 (dk_at dksX4_ends_3 6 rfl rfl)
theorem dX4_ends_75 : decode cX4_ends 75 = .ok (.getfield 78, 3) := dk_180 0 78 (dk_at dksX4_ends_3 7 rfl rfl)
theorem dX4_ends_78 : decode cX4_ends 78 = .ok (.imul, 1) := dk_104 (dk_at dksX4_ends_3 10 rfl rfl)
theorem dX4_ends_79 : decode cX4_ends 79 = .ok (.sipush 131, 3) := dk_17 0 131 (dk_at dksX4_ends_3 11 rfl rfl)
theorem dX4_ends_82 : decode cX4_ends 82 = .ok (.invokestatic 72, 3) := dk_184 0 72 (dk_at dksX4_ends_3 14 rfl rfl)
theorem dX4_ends_85 : decode cX4_ends 85 = .ok (.aload_n 0, 1) := dk_42 (dk_at dksX4_ends_3 17 rfl rfl)
theorem dX4_ends_86 : decode cX4_ends 86 = .ok (.dup, 1) := dk_89 (dk_at dksX4_ends_3 18 rfl rfl)
theorem dX4_ends_87 : decode cX4_ends 87 = .ok (.getfield 78, 3) := dk_180 0 78 (dk_at dksX4_ends_3 19 rfl rfl)
theorem dX4_ends_90 : decode cX4_ends 90 = .ok (.iconst 1, 1) := dk_4 (dk_at dksX4_ends_3 22 rfl rfl)
theorem dX4_ends_91 : decode cX4_ends 91 = .ok (.iadd, 1) := dk_96 (dk_at dksX4_ends_3 23 rfl rfl)
theorem dX4_ends_92 : decode cX4_ends 92 = .ok (.putfield 78, 3) := dk_181 0 78 (dk_at dksX4_ends_4 0 rfl rfl)
theorem dX4_ends_95 : decode cX4_ends 95 = .ok (.iload_n 1, 1) := dk_27 (dk_at dksX4_ends_4 3 rfl rfl)
theorem dX4_ends_96 : decode cX4_ends 96 = .ok (.ireturn, 1) := dk_172 (dk_at dksX4_ends_4 4 rfl rfl)
abbrev cX4_bar : ByteArray := prog_21_method_23_code
def yX4_bar : MethodName := ⟨RX4, "bar", "()I"⟩
def dkwX4_bar_2 : List UInt8 := [92, 46, 4, 96, 79, 42, 27, 182, 0, 122, 172]
abbrev dktX4_bar_2 : List UInt8 := dkwX4_bar_2 ++ []
def dkwX4_bar_1 : List UInt8 := [61, 28, 7, 162, 0, 16, 42, 27, 28, 3, 182, 0, 125, 132, 2, 1, 167, 255, 241, 42, 180, 0, 9, 4]
abbrev dktX4_bar_1 : List UInt8 := dkwX4_bar_1 ++ dktX4_bar_2
def dkwX4_bar_0 : List UInt8 := [42, 180, 0, 9, 4, 46, 60, 42, 182, 0, 116, 27, 16, 8, 160, 0, 9, 42, 4, 182, 0, 119, 172, 3]
abbrev dktX4_bar_0 : List UInt8 := dkwX4_bar_0 ++ dktX4_bar_1
theorem dksX4_bar_0 : cX4_bar.data.toList.drop 0 = dktX4_bar_0 := by decide +kernel
theorem dksX4_bar_1 : cX4_bar.data.toList.drop 24 = dktX4_bar_1 := dk_seg dksX4_bar_0 24 rfl rfl
theorem dksX4_bar_2 : cX4_bar.data.toList.drop 48 = dktX4_bar_2 := dk_seg dksX4_bar_1 24 rfl rfl
theorem dX4_bar_0 : decode cX4_bar 0 = .ok (.aload_n 0, 1) := dk_42 (dk_at dksX4_bar_0 0 rfl rfl)
theorem dX4_bar_1 : decode cX4_bar 1 = .ok (.getfield 9, 3) := dk_180 0 9 (dk_at dksX4_bar_0 1 rfl rfl)
theorem dX4_bar_4 : decode cX4_bar 4 = .ok (.iconst 1, 1) := dk_4 (dk_at dksX4_bar_0 4 rfl rfl)
theorem dX4_bar_5 : decode cX4_bar 5 = .ok (.iaload, 1) := dk_46 (dk_at dksX4_bar_0 5 rfl rfl)
theorem dX4_bar_6 : decode cX4_bar 6 = .ok (.istore_n 1, 1) := dk_60 (dk_at dksX4_bar_0 6 rfl rfl)
theorem dX4_bar_7 : decode cX4_bar 7 = .ok (.aload_n 0, 1) := dk_42 (dk_at dksX4_bar_0 7 rfl rfl)
theorem dX4_bar_8 : decode cX4_bar 8 = .ok (.invokevirtual 116, 3) := dk_182 0 116 (dk_at dksX4_bar_0 8 rfl rfl)
theorem dX4_bar_11 : decode cX4_bar 11 = .ok (.iload_n 1, 1) := dk_27 (dk_at dksX4_bar_0 11 rfl rfl)
theorem dX4_bar_12 : decode cX4_bar 12 = .ok (.bipush 8, 2) := dk_16 8 (dk_at dksX4_bar_0 12 rfl rfl)
theorem dX4_bar_14 : decode cX4_bar 14 = .ok (.if_icmp .ne 9, 3) := dk_160 0 9 (dk_at dksX4_bar_0 14 rfl rfl)
theorem dX4_bar_17 : decode cX4_bar 17 = .ok (.aload_n 0, 1) := dk_42 (dk_at dksX4_bar_0 17 rfl rfl)
theorem dX4_bar_18 : decode cX4_bar 18 = .ok (.iconst 1, 1) := dk_4 (dk_at dksX4_bar_0 18 rfl rfl)
theorem dX4_bar_19 : decode cX4_bar 19 = .ok (.invokevirtual 119, 3) := dk_182 0 119 (dk_at dksX4_bar_0 19 rfl rfl)
theorem dX4_bar_22 : decode cX4_bar 22 = .ok (.ireturn, 1) := dk_172 (dk_at dksX4_bar_0 22 rfl rfl)
theorem dX4_bar_23 : decode cX4_bar 23 = .ok (.iconst 0, 1) := dk_3 (dk_at dksX4_bar_0 23 rfl rfl)
theorem dX4_bar_24 : decode cX4_bar 24 = .ok (.istore_n 2, 1) := dk_61 (dk_at dksX4_bar_1 0 rfl rfl)
theorem dX4_bar_25 : decode cX4_bar 25 = .ok (.iload_n 2, 1) := dk_28 (dk_at dksX4_bar_1 1 rfl rfl)
theorem dX4_bar_26 : decode cX4_bar 26 = .ok (.iconst 4, 1) := dk_7 (dk_at dksX4_bar_1 2 rfl rfl)
theorem dX4_bar_27 : decode cX4_bar 27 = .ok (.if_icmp .ge 16, 3) := dk_162 0 16 (dk_at dksX4_bar_1 3 rfl rfl)
theorem dX4_bar_30 : decode cX4_bar 30 = .ok (.aload_n 0, 1) := dk_42 (dk_at dksX4_bar_1 6 rfl rfl)
theorem dX4_bar_31 : decode cX4_bar 31 = .ok (.iload_n 1, 1) := dk_27 (dk_at dksX4_bar_1 7 rfl rfl)
theorem dX4_bar_32 : decode cX4_bar 32 = .ok (.iload_n 2, 1) := dk_28 (dk_at dksX4_bar_1 8 rfl rfl)
theorem dX4_bar_33 : decode cX4_bar 33 = .ok (.iconst 0, 1) := dk_3 (dk_at dksX4_bar_1 9 rfl rfl)
theorem dX4_bar_34 : decode cX4_bar 34 = .ok (.invokevirtual 125, 3) := dk_182 0 125 (dk_at dksX4_bar_1 10 rfl rfl)
theorem dX4_bar_37 : decode cX4_bar 37 = .ok (.iinc 2 1, 3) := dk_132 2 1 (dk_at dksX4_bar_1 13 rfl rfl)
theorem dX4_bar_40 : decode cX4_bar 40 = .ok (.goto (-15), 3) := dk_167 255 241 (dk_at dksX4_bar_1 16 rfl rfl)
theorem dX4_bar_43 : decode cX4_bar 43 = .ok (.aload_n 0, 1) := dk_42 (dk_at dksX4_bar_1 19 rfl rfl)
theorem dX4_bar_44 : decode cX4_bar 44 = .ok (.getfield 9, 3) := dk_180 0 9 (dk_at dksX4_bar_1 20 rfl rfl)
theorem dX4_bar_47 : decode cX4_bar 47 = .ok (.iconst 1, 1) := dk_4 (dk_at dksX4_bar_1 23 rfl rfl)
theorem dX4_bar_48 : decode cX4_bar 48 = .ok (.dup2, 1) := dk_92 (dk_at dksX4_bar_2 0 rfl rfl)
theorem dX4_bar_49 : decode cX4_bar 49 = .ok (.iaload, 1) := dk_46 (dk_at dksX4_bar_2 1 rfl rfl)
theorem dX4_bar_50 : decode cX4_bar 50 = .ok (.iconst 1, 1) := dk_4 (dk_at dksX4_bar_2 2 rfl rfl)
theorem dX4_bar_51 : decode cX4_bar 51 = .ok (.iadd, 1) := dk_96 (dk_at dksX4_bar_2 3 rfl rfl)
theorem dX4_bar_52 : decode cX4_bar 52 = .ok (.iastore, 1) := dk_79 (dk_at dksX4_bar_2 4 rfl rfl)
theorem dX4_bar_53 : decode cX4_bar 53 = .ok (.aload_n 0, 1) := dk_42 (dk_at dksX4_bar_2 5 rfl rfl)
theorem dX4_bar_54 : decode cX4_bar 54 = .ok (.iload_n 1, 1) := dk_27 (dk_at dksX4_bar_2 6 rfl rfl)
theorem dX4_bar_55 : decode cX4_bar 55 = .ok (.invokevirtual 122, 3) := dk_182 0 122 (dk_at dksX4_bar_2 7 rfl rfl)
theorem dX4_bar_58 : decode cX4_bar 58 = .ok (.ireturn, 1) := dk_172 (dk_at dksX4_bar_2 10 rfl rfl)
abbrev cX4_setBar : ByteArray := prog_21_method_12_code
def yX4_setBar : MethodName := ⟨RX4, "setBar", "(III)V"⟩
def dkwX4_setBar_0 : List UInt8 := [42, 180, 0, 9, 16, 11, 7, 27, 104, 96, 28, 96, 29, 79, 177]
abbrev dktX4_setBar_0 : List UInt8 := dkwX4_setBar_0 ++ []
theorem dksX4_setBar_0 : cX4_setBar.data.toList.drop 0 = dktX4_setBar_0 := by decide +kernel
theorem dX4_setBar_0 : decode cX4_setBar 0 = .ok (.aload_n 0, 1) := dk_42 (dk_at dksX4_setBar_0 0 rfl rfl)
theorem dX4_setBar_1 : decode cX4_setBar 1 = .ok (.getfield 9, 3) := dk_180 0 9 (dk_at dksX4_setBar_0 1 rfl rfl)
theorem dX4_setBar_4 : decode cX4_setBar 4 = .ok (.bipush 11, 2) := dk_16 11 (dk_at dksX4_setBar_0 4 rfl rfl)
theorem dX4_setBar_6 : decode cX4_setBar 6 = .ok (.iconst 4, 1) := dk_7 (dk_at dksX4_setBar_0 6 rfl rfl)
theorem dX4_setBar_7 : decode cX4_setBar 7 = .ok (.iload_n 1, 1) := dk_27 (dk_at dksX4_setBar_0 7 rfl rfl)
theorem dX4_setBar_8 : decode cX4_setBar 8 = .ok (.imul, 1) := dk_104 (dk_at dksX4_setBar_0 8 rfl rfl)
theorem dX4_setBar_9 : decode cX4_setBar 9 = .ok (.iadd, 1) := dk_96 (dk_at dksX4_setBar_0 9 rfl rfl)
theorem dX4_setBar_10 : decode cX4_setBar 10 = .ok (.iload_n 2, 1) := dk_28 (dk_at dksX4_setBar_0 10 rfl rfl)
theorem dX4_setBar_11 : decode cX4_setBar 11 = .ok (.iadd, 1) := dk_96 (dk_at dksX4_setBar_0 11 rfl rfl)
theorem dX4_setBar_12 : decode cX4_setBar 12 = .ok (.iload_n 3, 1) := dk_29 (dk_at dksX4_setBar_0 12 rfl rfl)
theorem dX4_setBar_13 : decode cX4_setBar 13 = .ok (.iastore, 1) := dk_79 (dk_at dksX4_setBar_0 13 rfl rfl)
theorem dX4_setBar_14 : decode cX4_setBar 14 = .ok (.return_, 1) := dk_177 (dk_at dksX4_setBar_0 14 rfl rfl)
abbrev cX4_barOf : ByteArray := prog_21_method_24_code
def yX4_barOf : MethodName := ⟨RX4, "barOf", "(II)I"⟩
def dkwX4_barOf_5 : List UInt8 := [182, 0, 136, 172, 42, 27, 6, 182, 0, 101, 172]
abbrev dktX4_barOf_5 : List UInt8 := dkwX4_barOf_5 ++ []
def dkwX4_barOf_4 : List UInt8 := [182, 0, 133, 172, 42, 27, 5, 182, 0, 101, 172, 42, 27, 182, 0, 113, 172, 27, 6, 112, 172, 42, 27]
abbrev dktX4_barOf_4 : List UInt8 := dkwX4_barOf_4 ++ dktX4_barOf_5
def dkwX4_barOf_3 : List UInt8 := [42, 27, 3, 182, 0, 101, 172, 42, 27, 182, 0, 98, 172, 42, 27, 4, 182, 0, 101, 172, 42, 27]
abbrev dktX4_barOf_3 : List UInt8 := dkwX4_barOf_3 ++ dktX4_barOf_4
def dkwX4_barOf_2 : List UInt8 := [170, 0, 0, 0, 0, 0, 96, 0, 0, 0, 0, 0, 0, 0, 7, 0, 0, 0, 47, 0, 0, 0, 54, 0, 0, 0, 60, 0, 0, 0, 67, 0, 0, 0, 73, 0, 0, 0, 80, 0, 0, 0, 86, 0, 0, 0, 90]
abbrev dktX4_barOf_2 : List UInt8 := dkwX4_barOf_2 ++ dktX4_barOf_3
def dkwX4_barOf_1 : List UInt8 := [167, 0, 4, 3, 181, 0, 69, 42, 180, 0, 69, 158, 0, 5, 3, 172, 28]
abbrev dktX4_barOf_1 : List UInt8 := dkwX4_barOf_1 ++ dktX4_barOf_2
def dkwX4_barOf_0 : List UInt8 := [42, 42, 27, 182, 0, 129, 154, 0, 7, 4, 167, 0, 18, 28, 3, 16, 8, 184, 0, 87, 154, 0, 7, 5]
abbrev dktX4_barOf_0 : List UInt8 := dkwX4_barOf_0 ++ dktX4_barOf_1
theorem dksX4_barOf_0 : cX4_barOf.data.toList.drop 0 = dktX4_barOf_0 := by decide +kernel
theorem dksX4_barOf_1 : cX4_barOf.data.toList.drop 24 = dktX4_barOf_1 := dk_seg dksX4_barOf_0 24 rfl rfl
theorem dksX4_barOf_2 : cX4_barOf.data.toList.drop 41 = dktX4_barOf_2 := dk_seg dksX4_barOf_1 17 rfl rfl
theorem dksX4_barOf_3 : cX4_barOf.data.toList.drop 88 = dktX4_barOf_3 := dk_seg dksX4_barOf_2 47 rfl rfl
theorem dksX4_barOf_4 : cX4_barOf.data.toList.drop 110 = dktX4_barOf_4 := dk_seg dksX4_barOf_3 22 rfl rfl
theorem dksX4_barOf_5 : cX4_barOf.data.toList.drop 133 = dktX4_barOf_5 := dk_seg dksX4_barOf_4 23 rfl rfl
theorem dX4_barOf_0 : decode cX4_barOf 0 = .ok (.aload_n 0, 1) := dk_42 (dk_at dksX4_barOf_0 0 rfl rfl)
theorem dX4_barOf_1 : decode cX4_barOf 1 = .ok (.aload_n 0, 1) := dk_42 (dk_at dksX4_barOf_0 1 rfl rfl)
theorem dX4_barOf_2 : decode cX4_barOf 2 = .ok (.iload_n 1, 1) := dk_27 (dk_at dksX4_barOf_0 2 rfl rfl)
theorem dX4_barOf_3 : decode cX4_barOf 3 = .ok (.invokevirtual 129, 3) := dk_182 0 129 (dk_at dksX4_barOf_0 3 rfl rfl)
theorem dX4_barOf_6 : decode cX4_barOf 6 = .ok (.ifCond .ne 7, 3) := dk_154 0 7 (dk_at dksX4_barOf_0 6 rfl rfl)
theorem dX4_barOf_9 : decode cX4_barOf 9 = .ok (.iconst 1, 1) := dk_4 (dk_at dksX4_barOf_0 9 rfl rfl)
theorem dX4_barOf_10 : decode cX4_barOf 10 = .ok (.goto 18, 3) := dk_167 0 18 (dk_at dksX4_barOf_0 10 rfl rfl)
theorem dX4_barOf_13 : decode cX4_barOf 13 = .ok (.iload_n 2, 1) := dk_28 (dk_at dksX4_barOf_0 13 rfl rfl)
theorem dX4_barOf_14 : decode cX4_barOf 14 = .ok (.iconst 0, 1) := dk_3 (dk_at dksX4_barOf_0 14 rfl rfl)
theorem dX4_barOf_15 : decode cX4_barOf 15 = .ok (.bipush 8, 2) := dk_16 8 (dk_at dksX4_barOf_0 15 rfl rfl)
theorem dX4_barOf_17 : decode cX4_barOf 17 = .ok (.invokestatic 87, 3) := dk_184 0 87 (dk_at dksX4_barOf_0 17 rfl rfl)
theorem dX4_barOf_20 : decode cX4_barOf 20 = .ok (.ifCond .ne 7, 3) := dk_154 0 7 (dk_at dksX4_barOf_0 20 rfl rfl)
theorem dX4_barOf_23 : decode cX4_barOf 23 = .ok (.iconst 2, 1) := dk_5 (dk_at dksX4_barOf_0 23 rfl rfl)
theorem dX4_barOf_24 : decode cX4_barOf 24 = .ok (.goto 4, 3) := dk_167 0 4 (dk_at dksX4_barOf_1 0 rfl rfl)
theorem dX4_barOf_27 : decode cX4_barOf 27 = .ok (.iconst 0, 1) := dk_3 (dk_at dksX4_barOf_1 3 rfl rfl)
theorem dX4_barOf_28 : decode cX4_barOf 28 = .ok (.putfield 69, 3) := dk_181 0 69 (dk_at dksX4_barOf_1 4 rfl rfl)
theorem dX4_barOf_31 : decode cX4_barOf 31 = .ok (.aload_n 0, 1) := dk_42 (dk_at dksX4_barOf_1 7 rfl rfl)
theorem dX4_barOf_32 : decode cX4_barOf 32 = .ok (.getfield 69, 3) := dk_180 0 69 (dk_at dksX4_barOf_1 8 rfl rfl)
theorem dX4_barOf_35 : decode cX4_barOf 35 = .ok (.ifCond .le 5, 3) := dk_158 0 5 (dk_at dksX4_barOf_1 11 rfl rfl)
theorem dX4_barOf_38 : decode cX4_barOf 38 = .ok (.iconst 0, 1) := dk_3 (dk_at dksX4_barOf_1 14 rfl rfl)
theorem dX4_barOf_39 : decode cX4_barOf 39 = .ok (.ireturn, 1) := dk_172 (dk_at dksX4_barOf_1 15 rfl rfl)
theorem dX4_barOf_40 : decode cX4_barOf 40 = .ok (.iload_n 2, 1) := dk_28 (dk_at dksX4_barOf_1 16 rfl rfl)
theorem dX4_barOf_41 : decode cX4_barOf 41 = .ok (.tableswitch 96 0 7 #[47, 54, 60, 67, 73, 80, 86, 90], 47) := by decide +kernel
theorem dX4_barOf_88 : decode cX4_barOf 88 = .ok (.aload_n 0, 1) := dk_42 (dk_at dksX4_barOf_3 0 rfl rfl)
theorem dX4_barOf_89 : decode cX4_barOf 89 = .ok (.iload_n 1, 1) := dk_27 (dk_at dksX4_barOf_3 1 rfl rfl)
theorem dX4_barOf_90 : decode cX4_barOf 90 = .ok (.iconst 0, 1) := dk_3 (dk_at dksX4_barOf_3 2 rfl rfl)
theorem dX4_barOf_91 : decode cX4_barOf 91 = .ok (.invokevirtual 101, 3) := dk_182 0 101 (dk_at dksX4_barOf_3 3 rfl rfl)
theorem dX4_barOf_94 : decode cX4_barOf 94 = .ok (.ireturn, 1) := dk_172 (dk_at dksX4_barOf_3 6 rfl rfl)
theorem dX4_barOf_95 : decode cX4_barOf 95 = .ok (.aload_n 0, 1) := dk_42 (dk_at dksX4_barOf_3 7 rfl rfl)
theorem dX4_barOf_96 : decode cX4_barOf 96 = .ok (.iload_n 1, 1) := dk_27 (dk_at dksX4_barOf_3 8 rfl rfl)
theorem dX4_barOf_97 : decode cX4_barOf 97 = .ok (.invokevirtual 98, 3) := dk_182 0 98 (dk_at dksX4_barOf_3 9 rfl rfl)
theorem dX4_barOf_100 : decode cX4_barOf 100 = .ok (.ireturn, 1) := dk_172 (dk_at dksX4_barOf_3 12 rfl rfl)
theorem dX4_barOf_101 : decode cX4_barOf 101 = .ok (.aload_n 0, 1) := dk_42 (dk_at dksX4_barOf_3 13 rfl rfl)
theorem dX4_barOf_102 : decode cX4_barOf 102 = .ok (.iload_n 1, 1) := dk_27 (dk_at dksX4_barOf_3 14 rfl rfl)
theorem dX4_barOf_103 : decode cX4_barOf 103 = .ok (.iconst 1, 1) := dk_4 (dk_at dksX4_barOf_3 15 rfl rfl)
theorem dX4_barOf_104 : decode cX4_barOf 104 = .ok (.invokevirtual 101, 3) := dk_182 0 101 (dk_at dksX4_barOf_3 16 rfl rfl)
theorem dX4_barOf_107 : decode cX4_barOf 107 = .ok (.ireturn, 1) := dk_172 (dk_at dksX4_barOf_3 19 rfl rfl)
theorem dX4_barOf_108 : decode cX4_barOf 108 = .ok (.aload_n 0, 1) := dk_42 (dk_at dksX4_barOf_3 20 rfl rfl)
theorem dX4_barOf_109 : decode cX4_barOf 109 = .ok (.iload_n 1, 1) := dk_27 (dk_at dksX4_barOf_3 21 rfl rfl)
theorem dX4_barOf_110 : decode cX4_barOf 110 = .ok (.invokevirtual 133, 3) := dk_182 0 133 (dk_at dksX4_barOf_4 0 rfl rfl)
theorem dX4_barOf_113 : decode cX4_barOf 113 = .ok (.ireturn, 1) := dk_172 (dk_at dksX4_barOf_4 3 rfl rfl)
theorem dX4_barOf_114 : decode cX4_barOf 114 = .ok (.aload_n 0, 1) := dk_42 (dk_at dksX4_barOf_4 4 rfl rfl)
theorem dX4_barOf_115 : decode cX4_barOf 115 = .ok (.iload_n 1, 1) := dk_27 (dk_at dksX4_barOf_4 5 rfl rfl)
theorem dX4_barOf_116 : decode cX4_barOf 116 = .ok (.iconst 2, 1) := dk_5 (dk_at dksX4_barOf_4 6 rfl rfl)
theorem dX4_barOf_117 : decode cX4_barOf 117 = .ok (.invokevirtual 101, 3) := dk_182 0 101 (dk_at dksX4_barOf_4 7 rfl rfl)
theorem dX4_barOf_120 : decode cX4_barOf 120 = .ok (.ireturn, 1) := dk_172 (dk_at dksX4_barOf_4 10 rfl rfl)
theorem dX4_barOf_121 : decode cX4_barOf 121 = .ok (.aload_n 0, 1) := dk_42 (dk_at dksX4_barOf_4 11 rfl rfl)
theorem dX4_barOf_122 : decode cX4_barOf 122 = .ok (.iload_n 1, 1) := dk_27 (dk_at dksX4_barOf_4 12 rfl rfl)
theorem dX4_barOf_123 : decode cX4_barOf 123 = .ok (.invokevirtual 113, 3) := dk_182 0 113 (dk_at dksX4_barOf_4 13 rfl rfl)
theorem dX4_barOf_126 : decode cX4_barOf 126 = .ok (.ireturn, 1) := dk_172 (dk_at dksX4_barOf_4 16 rfl rfl)
theorem dX4_barOf_127 : decode cX4_barOf 127 = .ok (.iload_n 1, 1) := dk_27 (dk_at dksX4_barOf_4 17 rfl rfl)
theorem dX4_barOf_128 : decode cX4_barOf 128 = .ok (.iconst 3, 1) := dk_6 (dk_at dksX4_barOf_4 18 rfl rfl)
theorem dX4_barOf_129 : decode cX4_barOf 129 = .ok (.irem, 1) := dk_112 (dk_at dksX4_barOf_4 19 rfl rfl)
theorem dX4_barOf_130 : decode cX4_barOf 130 = .ok (.ireturn, 1) := dk_172 (dk_at dksX4_barOf_4 20 rfl rfl)
theorem dX4_barOf_131 : decode cX4_barOf 131 = .ok (.aload_n 0, 1) := dk_42 (dk_at dksX4_barOf_4 21 rfl rfl)
theorem dX4_barOf_132 : decode cX4_barOf 132 = .ok (.iload_n 1, 1) := dk_27 (dk_at dksX4_barOf_4 22 rfl rfl)
theorem dX4_barOf_133 : decode cX4_barOf 133 = .ok (.invokevirtual 136, 3) := dk_182 0 136 (dk_at dksX4_barOf_5 0 rfl rfl)
theorem dX4_barOf_136 : decode cX4_barOf 136 = .ok (.ireturn, 1) := dk_172 (dk_at dksX4_barOf_5 3 rfl rfl)
theorem dX4_barOf_137 : decode cX4_barOf 137 = .ok (.aload_n 0, 1) := dk_42 (dk_at dksX4_barOf_5 4 rfl rfl)
theorem dX4_barOf_138 : decode cX4_barOf 138 = .ok (.iload_n 1, 1) := dk_27 (dk_at dksX4_barOf_5 5 rfl rfl)
theorem dX4_barOf_139 : decode cX4_barOf 139 = .ok (.iconst 3, 1) := dk_6 (dk_at dksX4_barOf_5 6 rfl rfl)
theorem dX4_barOf_140 : decode cX4_barOf 140 = .ok (.invokevirtual 101, 3) := dk_182 0 101 (dk_at dksX4_barOf_5 7 rfl rfl)
theorem dX4_barOf_143 : decode cX4_barOf 143 = .ok (.ireturn, 1) := dk_172 (dk_at dksX4_barOf_5 10 rfl rfl)
abbrev cX4_isBar : ByteArray := prog_21_method_13_code
def yX4_isBar : MethodName := ⟨RX4, "isBar", "(I)Z"⟩
def dkwX4_isBar_0 : List UInt8 := [27, 3, 42, 180, 0, 9, 4, 46, 4, 100, 184, 0, 87, 172]
abbrev dktX4_isBar_0 : List UInt8 := dkwX4_isBar_0 ++ []
theorem dksX4_isBar_0 : cX4_isBar.data.toList.drop 0 = dktX4_isBar_0 := by decide +kernel
theorem dX4_isBar_0 : decode cX4_isBar 0 = .ok (.iload_n 1, 1) := dk_27 (dk_at dksX4_isBar_0 0 rfl rfl)
theorem dX4_isBar_1 : decode cX4_isBar 1 = .ok (.iconst 0, 1) := dk_3 (dk_at dksX4_isBar_0 1 rfl rfl)
theorem dX4_isBar_2 : decode cX4_isBar 2 = .ok (.aload_n 0, 1) := dk_42 (dk_at dksX4_isBar_0 2 rfl rfl)
theorem dX4_isBar_3 : decode cX4_isBar 3 = .ok (.getfield 9, 3) := dk_180 0 9 (dk_at dksX4_isBar_0 3 rfl rfl)
theorem dX4_isBar_6 : decode cX4_isBar 6 = .ok (.iconst 1, 1) := dk_4 (dk_at dksX4_isBar_0 6 rfl rfl)
theorem dX4_isBar_7 : decode cX4_isBar 7 = .ok (.iaload, 1) := dk_46 (dk_at dksX4_isBar_0 7 rfl rfl)
theorem dX4_isBar_8 : decode cX4_isBar 8 = .ok (.iconst 1, 1) := dk_4 (dk_at dksX4_isBar_0 8 rfl rfl)
theorem dX4_isBar_9 : decode cX4_isBar 9 = .ok (.isub, 1) := dk_100 (dk_at dksX4_isBar_0 9 rfl rfl)
theorem dX4_isBar_10 : decode cX4_isBar 10 = .ok (.invokestatic 87, 3) := dk_184 0 87 (dk_at dksX4_isBar_0 10 rfl rfl)
theorem dX4_isBar_13 : decode cX4_isBar 13 = .ok (.ireturn, 1) := dk_172 (dk_at dksX4_isBar_0 13 rfl rfl)
abbrev cX4_bar1 : ByteArray := prog_21_method_11_code
def yX4_bar1 : MethodName := ⟨RX4, "bar1", "(II)I"⟩
def dkwX4_bar1_0 : List UInt8 := [42, 180, 0, 9, 16, 11, 7, 27, 104, 96, 28, 96, 46, 172]
abbrev dktX4_bar1_0 : List UInt8 := dkwX4_bar1_0 ++ []
theorem dksX4_bar1_0 : cX4_bar1.data.toList.drop 0 = dktX4_bar1_0 := by decide +kernel
theorem dX4_bar1_0 : decode cX4_bar1 0 = .ok (.aload_n 0, 1) := dk_42 (dk_at dksX4_bar1_0 0 rfl rfl)
theorem dX4_bar1_1 : decode cX4_bar1 1 = .ok (.getfield 9, 3) := dk_180 0 9 (dk_at dksX4_bar1_0 1 rfl rfl)
theorem dX4_bar1_4 : decode cX4_bar1 4 = .ok (.bipush 11, 2) := dk_16 11 (dk_at dksX4_bar1_0 4 rfl rfl)
theorem dX4_bar1_6 : decode cX4_bar1 6 = .ok (.iconst 4, 1) := dk_7 (dk_at dksX4_bar1_0 6 rfl rfl)
theorem dX4_bar1_7 : decode cX4_bar1 7 = .ok (.iload_n 1, 1) := dk_27 (dk_at dksX4_bar1_0 7 rfl rfl)
theorem dX4_bar1_8 : decode cX4_bar1 8 = .ok (.imul, 1) := dk_104 (dk_at dksX4_bar1_0 8 rfl rfl)
theorem dX4_bar1_9 : decode cX4_bar1 9 = .ok (.iadd, 1) := dk_96 (dk_at dksX4_bar1_0 9 rfl rfl)
theorem dX4_bar1_10 : decode cX4_bar1 10 = .ok (.iload_n 2, 1) := dk_28 (dk_at dksX4_bar1_0 10 rfl rfl)
theorem dX4_bar1_11 : decode cX4_bar1 11 = .ok (.iadd, 1) := dk_96 (dk_at dksX4_bar1_0 11 rfl rfl)
theorem dX4_bar1_12 : decode cX4_bar1 12 = .ok (.iaload, 1) := dk_46 (dk_at dksX4_bar1_0 12 rfl rfl)
theorem dX4_bar1_13 : decode cX4_bar1 13 = .ok (.ireturn, 1) := dk_172 (dk_at dksX4_bar1_0 13 rfl rfl)
abbrev cX4_load : ByteArray := prog_21_method_17_code
def yX4_load : MethodName := ⟨RX4, "load", "(I)I"⟩
def dkwX4_load_1 : List UInt8 := [42, 29, 182, 0, 95, 167, 0, 4, 3, 96, 61, 132, 3, 1, 167, 255, 222, 28, 172]
abbrev dktX4_load_1 : List UInt8 := dkwX4_load_1 ++ []
def dkwX4_load_0 : List UInt8 := [3, 61, 3, 62, 29, 42, 180, 0, 9, 5, 46, 162, 0, 30, 28, 42, 29, 182, 0, 91, 27, 160, 0, 11]
abbrev dktX4_load_0 : List UInt8 := dkwX4_load_0 ++ dktX4_load_1
theorem dksX4_load_0 : cX4_load.data.toList.drop 0 = dktX4_load_0 := by decide +kernel
theorem dksX4_load_1 : cX4_load.data.toList.drop 24 = dktX4_load_1 := dk_seg dksX4_load_0 24 rfl rfl
theorem dX4_load_0 : decode cX4_load 0 = .ok (.iconst 0, 1) := dk_3 (dk_at dksX4_load_0 0 rfl rfl)
theorem dX4_load_1 : decode cX4_load 1 = .ok (.istore_n 2, 1) := dk_61 (dk_at dksX4_load_0 1 rfl rfl)
theorem dX4_load_2 : decode cX4_load 2 = .ok (.iconst 0, 1) := dk_3 (dk_at dksX4_load_0 2 rfl rfl)
theorem dX4_load_3 : decode cX4_load 3 = .ok (.istore_n 3, 1) := dk_62 (dk_at dksX4_load_0 3 rfl rfl)
theorem dX4_load_4 : decode cX4_load 4 = .ok (.iload_n 3, 1) := dk_29 (dk_at dksX4_load_0 4 rfl rfl)
theorem dX4_load_5 : decode cX4_load 5 = .ok (.aload_n 0, 1) := dk_42 (dk_at dksX4_load_0 5 rfl rfl)
theorem dX4_load_6 : decode cX4_load 6 = .ok (.getfield 9, 3) := dk_180 0 9 (dk_at dksX4_load_0 6 rfl rfl)
theorem dX4_load_9 : decode cX4_load 9 = .ok (.iconst 2, 1) := dk_5 (dk_at dksX4_load_0 9 rfl rfl)
theorem dX4_load_10 : decode cX4_load 10 = .ok (.iaload, 1) := dk_46 (dk_at dksX4_load_0 10 rfl rfl)
theorem dX4_load_11 : decode cX4_load 11 = .ok (.if_icmp .ge 30, 3) := dk_162 0 30 (dk_at dksX4_load_0 11 rfl rfl)
theorem dX4_load_14 : decode cX4_load 14 = .ok (.iload_n 2, 1) := dk_28 (dk_at dksX4_load_0 14 rfl rfl)
theorem dX4_load_15 : decode cX4_load 15 = .ok (.aload_n 0, 1) := dk_42 (dk_at dksX4_load_0 15 rfl rfl)
theorem dX4_load_16 : decode cX4_load 16 = .ok (.iload_n 3, 1) := dk_29 (dk_at dksX4_load_0 16 rfl rfl)
theorem dX4_load_17 : decode cX4_load 17 = .ok (.invokevirtual 91, 3) := dk_182 0 91 (dk_at dksX4_load_0 17 rfl rfl)
theorem dX4_load_20 : decode cX4_load 20 = .ok (.iload_n 1, 1) := dk_27 (dk_at dksX4_load_0 20 rfl rfl)
theorem dX4_load_21 : decode cX4_load 21 = .ok (.if_icmp .ne 11, 3) := dk_160 0 11 (dk_at dksX4_load_0 21 rfl rfl)
theorem dX4_load_24 : decode cX4_load 24 = .ok (.aload_n 0, 1) := dk_42 (dk_at dksX4_load_1 0 rfl rfl)
theorem dX4_load_25 : decode cX4_load 25 = .ok (.iload_n 3, 1) := dk_29 (dk_at dksX4_load_1 1 rfl rfl)
theorem dX4_load_26 : decode cX4_load 26 = .ok (.invokevirtual 95, 3) := dk_182 0 95 (dk_at dksX4_load_1 2 rfl rfl)
theorem dX4_load_29 : decode cX4_load 29 = .ok (.goto 4, 3) := dk_167 0 4 (dk_at dksX4_load_1 5 rfl rfl)
theorem dX4_load_32 : decode cX4_load 32 = .ok (.iconst 0, 1) := dk_3 (dk_at dksX4_load_1 8 rfl rfl)
theorem dX4_load_33 : decode cX4_load 33 = .ok (.iadd, 1) := dk_96 (dk_at dksX4_load_1 9 rfl rfl)
theorem dX4_load_34 : decode cX4_load 34 = .ok (.istore_n 2, 1) := dk_61 (dk_at dksX4_load_1 10 rfl rfl)
theorem dX4_load_35 : decode cX4_load 35 = .ok (.iinc 3 1, 3) := dk_132 3 1 (dk_at dksX4_load_1 11 rfl rfl)
theorem dX4_load_38 : decode cX4_load 38 = .ok (.goto (-34), 3) := dk_167 255 222 (dk_at dksX4_load_1 14 rfl rfl)
theorem dX4_load_41 : decode cX4_load 41 = .ok (.iload_n 2, 1) := dk_28 (dk_at dksX4_load_1 17 rfl rfl)
theorem dX4_load_42 : decode cX4_load 42 = .ok (.ireturn, 1) := dk_172 (dk_at dksX4_load_1 18 rfl rfl)
abbrev cX4_barOf1 : ByteArray := prog_21_method_16_code
def yX4_barOf1 : MethodName := ⟨RX4, "barOf1", "(I)I"⟩
def dkwX4_barOf1_0 : List UInt8 := [42, 180, 0, 9, 16, 43, 5, 27, 104, 96, 4, 96, 46, 172]
abbrev dktX4_barOf1_0 : List UInt8 := dkwX4_barOf1_0 ++ []
theorem dksX4_barOf1_0 : cX4_barOf1.data.toList.drop 0 = dktX4_barOf1_0 := by decide +kernel
theorem dX4_barOf1_0 : decode cX4_barOf1 0 = .ok (.aload_n 0, 1) := dk_42 (dk_at dksX4_barOf1_0 0 rfl rfl)
theorem dX4_barOf1_1 : decode cX4_barOf1 1 = .ok (.getfield 9, 3) := dk_180 0 9 (dk_at dksX4_barOf1_0 1 rfl rfl)
theorem dX4_barOf1_4 : decode cX4_barOf1 4 = .ok (.bipush 43, 2) := dk_16 43 (dk_at dksX4_barOf1_0 4 rfl rfl)
theorem dX4_barOf1_6 : decode cX4_barOf1 6 = .ok (.iconst 2, 1) := dk_5 (dk_at dksX4_barOf1_0 6 rfl rfl)
theorem dX4_barOf1_7 : decode cX4_barOf1 7 = .ok (.iload_n 1, 1) := dk_27 (dk_at dksX4_barOf1_0 7 rfl rfl)
theorem dX4_barOf1_8 : decode cX4_barOf1 8 = .ok (.imul, 1) := dk_104 (dk_at dksX4_barOf1_0 8 rfl rfl)
theorem dX4_barOf1_9 : decode cX4_barOf1 9 = .ok (.iadd, 1) := dk_96 (dk_at dksX4_barOf1_0 9 rfl rfl)
theorem dX4_barOf1_10 : decode cX4_barOf1 10 = .ok (.iconst 1, 1) := dk_4 (dk_at dksX4_barOf1_0 10 rfl rfl)
theorem dX4_barOf1_11 : decode cX4_barOf1 11 = .ok (.iadd, 1) := dk_96 (dk_at dksX4_barOf1_0 11 rfl rfl)
theorem dX4_barOf1_12 : decode cX4_barOf1 12 = .ok (.iaload, 1) := dk_46 (dk_at dksX4_barOf1_0 12 rfl rfl)
theorem dX4_barOf1_13 : decode cX4_barOf1 13 = .ok (.ireturn, 1) := dk_172 (dk_at dksX4_barOf1_0 13 rfl rfl)
abbrev cX4_weightOf : ByteArray := prog_21_method_15_code
def yX4_weightOf : MethodName := ⟨RX4, "weightOf", "(I)I"⟩
def dkwX4_weightOf_0 : List UInt8 := [42, 180, 0, 9, 16, 43, 5, 27, 104, 96, 46, 172]
abbrev dktX4_weightOf_0 : List UInt8 := dkwX4_weightOf_0 ++ []
theorem dksX4_weightOf_0 : cX4_weightOf.data.toList.drop 0 = dktX4_weightOf_0 := by decide +kernel
theorem dX4_weightOf_0 : decode cX4_weightOf 0 = .ok (.aload_n 0, 1) := dk_42 (dk_at dksX4_weightOf_0 0 rfl rfl)
theorem dX4_weightOf_1 : decode cX4_weightOf 1 = .ok (.getfield 9, 3) := dk_180 0 9 (dk_at dksX4_weightOf_0 1 rfl rfl)
theorem dX4_weightOf_4 : decode cX4_weightOf 4 = .ok (.bipush 43, 2) := dk_16 43 (dk_at dksX4_weightOf_0 4 rfl rfl)
theorem dX4_weightOf_6 : decode cX4_weightOf 6 = .ok (.iconst 2, 1) := dk_5 (dk_at dksX4_weightOf_0 6 rfl rfl)
theorem dX4_weightOf_7 : decode cX4_weightOf 7 = .ok (.iload_n 1, 1) := dk_27 (dk_at dksX4_weightOf_0 7 rfl rfl)
theorem dX4_weightOf_8 : decode cX4_weightOf 8 = .ok (.imul, 1) := dk_104 (dk_at dksX4_weightOf_0 8 rfl rfl)
theorem dX4_weightOf_9 : decode cX4_weightOf 9 = .ok (.iadd, 1) := dk_96 (dk_at dksX4_weightOf_0 9 rfl rfl)
theorem dX4_weightOf_10 : decode cX4_weightOf 10 = .ok (.iaload, 1) := dk_46 (dk_at dksX4_weightOf_0 10 rfl rfl)
theorem dX4_weightOf_11 : decode cX4_weightOf 11 = .ok (.ireturn, 1) := dk_172 (dk_at dksX4_weightOf_0 11 rfl rfl)
abbrev cX4_off : ByteArray := prog_21_method_19_code
def yX4_off : MethodName := ⟨RX4, "off", "(I)I"⟩
def dkwX4_off_0 : List UInt8 := [42, 27, 182, 0, 98, 16, 10, 42, 27, 4, 182, 0, 101, 104, 100, 184, 0, 105, 172]
abbrev dktX4_off_0 : List UInt8 := dkwX4_off_0 ++ []
theorem dksX4_off_0 : cX4_off.data.toList.drop 0 = dktX4_off_0 := by decide +kernel
theorem dX4_off_0 : decode cX4_off 0 = .ok (.aload_n 0, 1) := dk_42 (dk_at dksX4_off_0 0 rfl rfl)
theorem dX4_off_1 : decode cX4_off 1 = .ok (.iload_n 1, 1) := dk_27 (dk_at dksX4_off_0 1 rfl rfl)
theorem dX4_off_2 : decode cX4_off 2 = .ok (.invokevirtual 98, 3) := dk_182 0 98 (dk_at dksX4_off_0 2 rfl rfl)
theorem dX4_off_5 : decode cX4_off 5 = .ok (.bipush 10, 2) := dk_16 10 (dk_at dksX4_off_0 5 rfl rfl)
theorem dX4_off_7 : decode cX4_off 7 = .ok (.aload_n 0, 1) := dk_42 (dk_at dksX4_off_0 7 rfl rfl)
theorem dX4_off_8 : decode cX4_off 8 = .ok (.iload_n 1, 1) := dk_27 (dk_at dksX4_off_0 8 rfl rfl)
theorem dX4_off_9 : decode cX4_off 9 = .ok (.iconst 1, 1) := dk_4 (dk_at dksX4_off_0 9 rfl rfl)
theorem dX4_off_10 : decode cX4_off 10 = .ok (.invokevirtual 101, 3) := dk_182 0 101 (dk_at dksX4_off_0 10 rfl rfl)
theorem dX4_off_13 : decode cX4_off 13 = .ok (.imul, 1) := dk_104 (dk_at dksX4_off_0 13 rfl rfl)
theorem dX4_off_14 : decode cX4_off 14 = .ok (.isub, 1) := dk_100 (dk_at dksX4_off_0 14 rfl rfl)
theorem dX4_off_15 : decode cX4_off 15 = .ok (.invokestatic 105, 3) := dk_184 0 105 (dk_at dksX4_off_0 15 rfl rfl)
theorem dX4_off_18 : decode cX4_off 18 = .ok (.ireturn, 1) := dk_172 (dk_at dksX4_off_0 18 rfl rfl)
abbrev cX4_bears : ByteArray := prog_21_method_20_code
def yX4_bears : MethodName := ⟨RX4, "bears", "(I)I"⟩
def dkwX4_bears_0 : List UInt8 := [3, 17, 1, 44, 16, 25, 42, 27, 5, 182, 0, 101, 104, 100, 184, 0, 110, 172]
abbrev dktX4_bears_0 : List UInt8 := dkwX4_bears_0 ++ []
theorem dksX4_bears_0 : cX4_bears.data.toList.drop 0 = dktX4_bears_0 := by decide +kernel
theorem dX4_bears_0 : decode cX4_bears 0 = .ok (.iconst 0, 1) := dk_3 (dk_at dksX4_bears_0 0 rfl rfl)
theorem dX4_bears_1 : decode cX4_bears 1 = .ok (.sipush 300, 3) := dk_17 1 44 (dk_at dksX4_bears_0 1 rfl rfl)
theorem dX4_bears_4 : decode cX4_bears 4 = .ok (.bipush 25, 2) := dk_16 25 (dk_at dksX4_bears_0 4 rfl rfl)
theorem dX4_bears_6 : decode cX4_bears 6 = .ok (.aload_n 0, 1) := dk_42 (dk_at dksX4_bears_0 6 rfl rfl)
theorem dX4_bears_7 : decode cX4_bears 7 = .ok (.iload_n 1, 1) := dk_27 (dk_at dksX4_bears_0 7 rfl rfl)
theorem dX4_bears_8 : decode cX4_bears 8 = .ok (.iconst 2, 1) := dk_5 (dk_at dksX4_bears_0 8 rfl rfl)
theorem dX4_bears_9 : decode cX4_bears 9 = .ok (.invokevirtual 101, 3) := dk_182 0 101 (dk_at dksX4_bears_0 9 rfl rfl)
theorem dX4_bears_12 : decode cX4_bears 12 = .ok (.imul, 1) := dk_104 (dk_at dksX4_bears_0 12 rfl rfl)
theorem dX4_bears_13 : decode cX4_bears 13 = .ok (.isub, 1) := dk_100 (dk_at dksX4_bears_0 13 rfl rfl)
theorem dX4_bears_14 : decode cX4_bears 14 = .ok (.invokestatic 110, 3) := dk_184 0 110 (dk_at dksX4_bears_0 14 rfl rfl)
theorem dX4_bears_17 : decode cX4_bears 17 = .ok (.ireturn, 1) := dk_172 (dk_at dksX4_bears_0 17 rfl rfl)
abbrev cX4_curtainsOn : ByteArray := prog_21_method_18_code
def yX4_curtainsOn : MethodName := ⟨RX4, "curtainsOn", "(I)I"⟩
def dkwX4_curtainsOn_1 : List UInt8 := [4, 167, 0, 4, 3, 96, 61, 132, 3, 1, 167, 255, 226, 28, 172]
abbrev dktX4_curtainsOn_1 : List UInt8 := dkwX4_curtainsOn_1 ++ []
def dkwX4_curtainsOn_0 : List UInt8 := [3, 61, 3, 62, 29, 42, 180, 0, 9, 5, 46, 162, 0, 26, 28, 42, 29, 182, 0, 91, 27, 160, 0, 7]
abbrev dktX4_curtainsOn_0 : List UInt8 := dkwX4_curtainsOn_0 ++ dktX4_curtainsOn_1
theorem dksX4_curtainsOn_0 : cX4_curtainsOn.data.toList.drop 0 = dktX4_curtainsOn_0 := by decide +kernel
theorem dksX4_curtainsOn_1 : cX4_curtainsOn.data.toList.drop 24 = dktX4_curtainsOn_1 := dk_seg dksX4_curtainsOn_0 24 rfl rfl
theorem dX4_curtainsOn_0 : decode cX4_curtainsOn 0 = .ok (.iconst 0, 1) := dk_3 (dk_at dksX4_curtainsOn_0 0 rfl rfl)
theorem dX4_curtainsOn_1 : decode cX4_curtainsOn 1 = .ok (.istore_n 2, 1) := dk_61 (dk_at dksX4_curtainsOn_0 1 rfl rfl)
theorem dX4_curtainsOn_2 : decode cX4_curtainsOn 2 = .ok (.iconst 0, 1) := dk_3 (dk_at dksX4_curtainsOn_0 2 rfl rfl)
theorem dX4_curtainsOn_3 : decode cX4_curtainsOn 3 = .ok (.istore_n 3, 1) := dk_62 (dk_at dksX4_curtainsOn_0 3 rfl rfl)
theorem dX4_curtainsOn_4 : decode cX4_curtainsOn 4 = .ok (.iload_n 3, 1) := dk_29 (dk_at dksX4_curtainsOn_0 4 rfl rfl)
theorem dX4_curtainsOn_5 : decode cX4_curtainsOn 5 = .ok (.aload_n 0, 1) := dk_42 (dk_at dksX4_curtainsOn_0 5 rfl rfl)
theorem dX4_curtainsOn_6 : decode cX4_curtainsOn 6 = .ok (.getfield 9, 3) := dk_180 0 9 (dk_at dksX4_curtainsOn_0 6 rfl rfl)
theorem dX4_curtainsOn_9 : decode cX4_curtainsOn 9 = .ok (.iconst 2, 1) := dk_5 (dk_at dksX4_curtainsOn_0 9 rfl rfl)
theorem dX4_curtainsOn_10 : decode cX4_curtainsOn 10 = .ok (.iaload, 1) := dk_46 (dk_at dksX4_curtainsOn_0 10 rfl rfl)
theorem dX4_curtainsOn_11 : decode cX4_curtainsOn 11 = .ok (.if_icmp .ge 26, 3) := dk_162 0 26 (dk_at dksX4_curtainsOn_0 11 rfl rfl)
theorem dX4_curtainsOn_14 : decode cX4_curtainsOn 14 = .ok (.iload_n 2, 1) := dk_28 (dk_at dksX4_curtainsOn_0 14 rfl rfl)
theorem dX4_curtainsOn_15 : decode cX4_curtainsOn 15 = .ok (.aload_n 0, 1) := dk_42 (dk_at dksX4_curtainsOn_0 15 rfl rfl)
theorem dX4_curtainsOn_16 : decode cX4_curtainsOn 16 = .ok (.iload_n 3, 1) := dk_29 (dk_at dksX4_curtainsOn_0 16 rfl rfl)
theorem dX4_curtainsOn_17 : decode cX4_curtainsOn 17 = .ok (.invokevirtual 91, 3) := dk_182 0 91 (dk_at dksX4_curtainsOn_0 17 rfl rfl)
theorem dX4_curtainsOn_20 : decode cX4_curtainsOn 20 = .ok (.iload_n 1, 1) := dk_27 (dk_at dksX4_curtainsOn_0 20 rfl rfl)
theorem dX4_curtainsOn_21 : decode cX4_curtainsOn 21 = .ok (.if_icmp .ne 7, 3) := dk_160 0 7 (dk_at dksX4_curtainsOn_0 21 rfl rfl)
theorem dX4_curtainsOn_24 : decode cX4_curtainsOn 24 = .ok (.iconst 1, 1) := dk_4 (dk_at dksX4_curtainsOn_1 0 rfl rfl)
theorem dX4_curtainsOn_25 : decode cX4_curtainsOn 25 = .ok (.goto 4, 3) := dk_167 0 4 (dk_at dksX4_curtainsOn_1 1 rfl rfl)
theorem dX4_curtainsOn_28 : decode cX4_curtainsOn 28 = .ok (.iconst 0, 1) := dk_3 (dk_at dksX4_curtainsOn_1 4 rfl rfl)
theorem dX4_curtainsOn_29 : decode cX4_curtainsOn 29 = .ok (.iadd, 1) := dk_96 (dk_at dksX4_curtainsOn_1 5 rfl rfl)
theorem dX4_curtainsOn_30 : decode cX4_curtainsOn 30 = .ok (.istore_n 2, 1) := dk_61 (dk_at dksX4_curtainsOn_1 6 rfl rfl)
theorem dX4_curtainsOn_31 : decode cX4_curtainsOn 31 = .ok (.iinc 3 1, 3) := dk_132 3 1 (dk_at dksX4_curtainsOn_1 7 rfl rfl)
theorem dX4_curtainsOn_34 : decode cX4_curtainsOn 34 = .ok (.goto (-30), 3) := dk_167 255 226 (dk_at dksX4_curtainsOn_1 10 rfl rfl)
theorem dX4_curtainsOn_37 : decode cX4_curtainsOn 37 = .ok (.iload_n 2, 1) := dk_28 (dk_at dksX4_curtainsOn_1 13 rfl rfl)
theorem dX4_curtainsOn_38 : decode cX4_curtainsOn 38 = .ok (.ireturn, 1) := dk_172 (dk_at dksX4_curtainsOn_1 14 rfl rfl)
abbrev cX4_rope : ByteArray := prog_21_method_25_code
def yX4_rope : MethodName := ⟨RX4, "rope", "(I)I"⟩
def dkwX4_rope_3 : List UInt8 := [16, 6, 92, 46, 8, 100, 79, 42, 27, 5, 3, 182, 0, 125, 42, 28, 182, 0, 122, 172]
abbrev dktX4_rope_3 : List UInt8 := dkwX4_rope_3 ++ []
def dkwX4_rope_2 : List UInt8 := [162, 0, 20, 42, 5, 16, 12, 8, 42, 180, 0, 9, 16, 6, 46, 100, 182, 0, 139, 172, 42, 180, 0, 9]
abbrev dktX4_rope_2 : List UInt8 := dkwX4_rope_2 ++ dktX4_rope_3
def dkwX4_rope_1 : List UInt8 := [61, 28, 154, 0, 12, 42, 5, 16, 11, 27, 182, 0, 139, 172, 42, 180, 0, 9, 16, 6, 46, 8]
abbrev dktX4_rope_1 : List UInt8 := dkwX4_rope_1 ++ dktX4_rope_2
def dkwX4_rope_0 : List UInt8 := [42, 182, 0, 116, 42, 27, 182, 0, 129, 154, 0, 9, 42, 4, 182, 0, 119, 172, 42, 27, 5, 182, 0, 101]
abbrev dktX4_rope_0 : List UInt8 := dkwX4_rope_0 ++ dktX4_rope_1
theorem dksX4_rope_0 : cX4_rope.data.toList.drop 0 = dktX4_rope_0 := by decide +kernel
theorem dksX4_rope_1 : cX4_rope.data.toList.drop 24 = dktX4_rope_1 := dk_seg dksX4_rope_0 24 rfl rfl
theorem dksX4_rope_2 : cX4_rope.data.toList.drop 46 = dktX4_rope_2 := dk_seg dksX4_rope_1 22 rfl rfl
theorem dksX4_rope_3 : cX4_rope.data.toList.drop 70 = dktX4_rope_3 := dk_seg dksX4_rope_2 24 rfl rfl
theorem dX4_rope_0 : decode cX4_rope 0 = .ok (.aload_n 0, 1) := dk_42 (dk_at dksX4_rope_0 0 rfl rfl)
theorem dX4_rope_1 : decode cX4_rope 1 = .ok (.invokevirtual 116, 3) := dk_182 0 116 (dk_at dksX4_rope_0 1 rfl rfl)
theorem dX4_rope_4 : decode cX4_rope 4 = .ok (.aload_n 0, 1) := dk_42 (dk_at dksX4_rope_0 4 rfl rfl)
theorem dX4_rope_5 : decode cX4_rope 5 = .ok (.iload_n 1, 1) := dk_27 (dk_at dksX4_rope_0 5 rfl rfl)
theorem dX4_rope_6 : decode cX4_rope 6 = .ok (.invokevirtual 129, 3) := dk_182 0 129 (dk_at dksX4_rope_0 6 rfl rfl)
theorem dX4_rope_9 : decode cX4_rope 9 = .ok (.ifCond .ne 9, 3) := dk_154 0 9 (dk_at dksX4_rope_0 9 rfl rfl)
theorem dX4_rope_12 : decode cX4_rope 12 = .ok (.aload_n 0, 1) := dk_42 (dk_at dksX4_rope_0 12 rfl rfl)
theorem dX4_rope_13 : decode cX4_rope 13 = .ok (.iconst 1, 1) := dk_4 (dk_at dksX4_rope_0 13 rfl rfl)
theorem dX4_rope_14 : decode cX4_rope 14 = .ok (.invokevirtual 119, 3) := dk_182 0 119 (dk_at dksX4_rope_0 14 rfl rfl)
theorem dX4_rope_17 : decode cX4_rope 17 = .ok (.ireturn, 1) := dk_172 (dk_at dksX4_rope_0 17 rfl rfl)
theorem dX4_rope_18 : decode cX4_rope 18 = .ok (.aload_n 0, 1) := dk_42 (dk_at dksX4_rope_0 18 rfl rfl)
theorem dX4_rope_19 : decode cX4_rope 19 = .ok (.iload_n 1, 1) := dk_27 (dk_at dksX4_rope_0 19 rfl rfl)
theorem dX4_rope_20 : decode cX4_rope 20 = .ok (.iconst 2, 1) := dk_5 (dk_at dksX4_rope_0 20 rfl rfl)
theorem dX4_rope_21 : decode cX4_rope 21 = .ok (.invokevirtual 101, 3) := dk_182 0 101 (dk_at dksX4_rope_0 21 rfl rfl)
theorem dX4_rope_24 : decode cX4_rope 24 = .ok (.istore_n 2, 1) := dk_61 (dk_at dksX4_rope_1 0 rfl rfl)
theorem dX4_rope_25 : decode cX4_rope 25 = .ok (.iload_n 2, 1) := dk_28 (dk_at dksX4_rope_1 1 rfl rfl)
theorem dX4_rope_26 : decode cX4_rope 26 = .ok (.ifCond .ne 12, 3) := dk_154 0 12 (dk_at dksX4_rope_1 2 rfl rfl)
theorem dX4_rope_29 : decode cX4_rope 29 = .ok (.aload_n 0, 1) := dk_42 (dk_at dksX4_rope_1 5 rfl rfl)
theorem dX4_rope_30 : decode cX4_rope 30 = .ok (.iconst 2, 1) := dk_5 (dk_at dksX4_rope_1 6 rfl rfl)
theorem dX4_rope_31 : decode cX4_rope 31 = .ok (.bipush 11, 2) := dk_16 11 (dk_at dksX4_rope_1 7 rfl rfl)
theorem dX4_rope_33 : decode cX4_rope 33 = .ok (.iload_n 1, 1) := dk_27 (dk_at dksX4_rope_1 9 rfl rfl)
theorem dX4_rope_34 : decode cX4_rope 34 = .ok (.invokevirtual 139, 3) := dk_182 0 139 (dk_at dksX4_rope_1 10 rfl rfl)
theorem dX4_rope_37 : decode cX4_rope 37 = .ok (.ireturn, 1) := dk_172 (dk_at dksX4_rope_1 13 rfl rfl)
theorem dX4_rope_38 : decode cX4_rope 38 = .ok (.aload_n 0, 1) := dk_42 (dk_at dksX4_rope_1 14 rfl rfl)
theorem dX4_rope_39 : decode cX4_rope 39 = .ok (.getfield 9, 3) := dk_180 0 9 (dk_at dksX4_rope_1 15 rfl rfl)
theorem dX4_rope_42 : decode cX4_rope 42 = .ok (.bipush 6, 2) := dk_16 6 (dk_at dksX4_rope_1 18 rfl rfl)
theorem dX4_rope_44 : decode cX4_rope 44 = .ok (.iaload, 1) := dk_46 (dk_at dksX4_rope_1 20 rfl rfl)
theorem dX4_rope_45 : decode cX4_rope 45 = .ok (.iconst 5, 1) := dk_8 (dk_at dksX4_rope_1 21 rfl rfl)
theorem dX4_rope_46 : decode cX4_rope 46 = .ok (.if_icmp .ge 20, 3) := dk_162 0 20 (dk_at dksX4_rope_2 0 rfl rfl)
theorem dX4_rope_49 : decode cX4_rope 49 = .ok (.aload_n 0, 1) := dk_42 (dk_at dksX4_rope_2 3 rfl rfl)
theorem dX4_rope_50 : decode cX4_rope 50 = .ok (.iconst 2, 1) := dk_5 (dk_at dksX4_rope_2 4 rfl rfl)
theorem dX4_rope_51 : decode cX4_rope 51 = .ok (.bipush 12, 2) := dk_16 12 (dk_at dksX4_rope_2 5 rfl rfl)
theorem dX4_rope_53 : decode cX4_rope 53 = .ok (.iconst 5, 1) := dk_8 (dk_at dksX4_rope_2 7 rfl rfl)
theorem dX4_rope_54 : decode cX4_rope 54 = .ok (.aload_n 0, 1) := dk_42 (dk_at dksX4_rope_2 8 rfl rfl)
theorem dX4_rope_55 : decode cX4_rope 55 = .ok (.getfield 9, 3) := dk_180 0 9 (dk_at dksX4_rope_2 9 rfl rfl)
theorem dX4_rope_58 : decode cX4_rope 58 = .ok (.bipush 6, 2) := dk_16 6 (dk_at dksX4_rope_2 12 rfl rfl)
theorem dX4_rope_60 : decode cX4_rope 60 = .ok (.iaload, 1) := dk_46 (dk_at dksX4_rope_2 14 rfl rfl)
theorem dX4_rope_61 : decode cX4_rope 61 = .ok (.isub, 1) := dk_100 (dk_at dksX4_rope_2 15 rfl rfl)
theorem dX4_rope_62 : decode cX4_rope 62 = .ok (.invokevirtual 139, 3) := dk_182 0 139 (dk_at dksX4_rope_2 16 rfl rfl)
theorem dX4_rope_65 : decode cX4_rope 65 = .ok (.ireturn, 1) := dk_172 (dk_at dksX4_rope_2 19 rfl rfl)
theorem dX4_rope_66 : decode cX4_rope 66 = .ok (.aload_n 0, 1) := dk_42 (dk_at dksX4_rope_2 20 rfl rfl)
theorem dX4_rope_67 : decode cX4_rope 67 = .ok (.getfield 9, 3) := dk_180 0 9 (dk_at dksX4_rope_2 21 rfl rfl)
theorem dX4_rope_70 : decode cX4_rope 70 = .ok (.bipush 6, 2) := dk_16 6 (dk_at dksX4_rope_3 0 rfl rfl)
theorem dX4_rope_72 : decode cX4_rope 72 = .ok (.dup2, 1) := dk_92 (dk_at dksX4_rope_3 2 rfl rfl)
theorem dX4_rope_73 : decode cX4_rope 73 = .ok (.iaload, 1) := dk_46 (dk_at dksX4_rope_3 3 rfl rfl)
theorem dX4_rope_74 : decode cX4_rope 74 = .ok (.iconst 5, 1) := dk_8 (dk_at dksX4_rope_3 4 rfl rfl)
theorem dX4_rope_75 : decode cX4_rope 75 = .ok (.isub, 1) := dk_100 (dk_at dksX4_rope_3 5 rfl rfl)
theorem dX4_rope_76 : decode cX4_rope 76 = .ok (.iastore, 1) := dk_79 (dk_at dksX4_rope_3 6 rfl rfl)
theorem dX4_rope_77 : decode cX4_rope 77 = .ok (.aload_n 0, 1) := dk_42 (dk_at dksX4_rope_3 7 rfl rfl)
theorem dX4_rope_78 : decode cX4_rope 78 = .ok (.iload_n 1, 1) := dk_27 (dk_at dksX4_rope_3 8 rfl rfl)
theorem dX4_rope_79 : decode cX4_rope 79 = .ok (.iconst 2, 1) := dk_5 (dk_at dksX4_rope_3 9 rfl rfl)
theorem dX4_rope_80 : decode cX4_rope 80 = .ok (.iconst 0, 1) := dk_3 (dk_at dksX4_rope_3 10 rfl rfl)
theorem dX4_rope_81 : decode cX4_rope 81 = .ok (.invokevirtual 125, 3) := dk_182 0 125 (dk_at dksX4_rope_3 11 rfl rfl)
theorem dX4_rope_84 : decode cX4_rope 84 = .ok (.aload_n 0, 1) := dk_42 (dk_at dksX4_rope_3 14 rfl rfl)
theorem dX4_rope_85 : decode cX4_rope 85 = .ok (.iload_n 2, 1) := dk_28 (dk_at dksX4_rope_3 15 rfl rfl)
theorem dX4_rope_86 : decode cX4_rope 86 = .ok (.invokevirtual 122, 3) := dk_182 0 122 (dk_at dksX4_rope_3 16 rfl rfl)
theorem dX4_rope_89 : decode cX4_rope 89 = .ok (.ireturn, 1) := dk_172 (dk_at dksX4_rope_3 19 rfl rfl)
abbrev cX4_refuse : ByteArray := prog_21_method_8_code
def yX4_refuse : MethodName := ⟨RX4, "refuse", "(III)I"⟩
def dkwX4_refuse_0 : List UInt8 := [42, 27, 181, 0, 69, 42, 28, 181, 0, 81, 42, 29, 181, 0, 84, 3, 172]
abbrev dktX4_refuse_0 : List UInt8 := dkwX4_refuse_0 ++ []
theorem dksX4_refuse_0 : cX4_refuse.data.toList.drop 0 = dktX4_refuse_0 := by decide +kernel
theorem dX4_refuse_0 : decode cX4_refuse 0 = .ok (.aload_n 0, 1) := dk_42 (dk_at dksX4_refuse_0 0 rfl rfl)
theorem dX4_refuse_1 : decode cX4_refuse 1 = .ok (.iload_n 1, 1) := dk_27 (dk_at dksX4_refuse_0 1 rfl rfl)
theorem dX4_refuse_2 : decode cX4_refuse 2 = .ok (.putfield 69, 3) := dk_181 0 69 (dk_at dksX4_refuse_0 2 rfl rfl)
theorem dX4_refuse_5 : decode cX4_refuse 5 = .ok (.aload_n 0, 1) := dk_42 (dk_at dksX4_refuse_0 5 rfl rfl)
theorem dX4_refuse_6 : decode cX4_refuse 6 = .ok (.iload_n 2, 1) := dk_28 (dk_at dksX4_refuse_0 6 rfl rfl)
theorem dX4_refuse_7 : decode cX4_refuse 7 = .ok (.putfield 81, 3) := dk_181 0 81 (dk_at dksX4_refuse_0 7 rfl rfl)
theorem dX4_refuse_10 : decode cX4_refuse 10 = .ok (.aload_n 0, 1) := dk_42 (dk_at dksX4_refuse_0 10 rfl rfl)
theorem dX4_refuse_11 : decode cX4_refuse 11 = .ok (.iload_n 3, 1) := dk_29 (dk_at dksX4_refuse_0 11 rfl rfl)
theorem dX4_refuse_12 : decode cX4_refuse 12 = .ok (.putfield 84, 3) := dk_181 0 84 (dk_at dksX4_refuse_0 12 rfl rfl)
theorem dX4_refuse_15 : decode cX4_refuse 15 = .ok (.iconst 0, 1) := dk_3 (dk_at dksX4_refuse_0 15 rfl rfl)
theorem dX4_refuse_16 : decode cX4_refuse 16 = .ok (.ireturn, 1) := dk_172 (dk_at dksX4_refuse_0 16 rfl rfl)
abbrev cX4_year : ByteArray := prog_21_method_27_code
def yX4_year : MethodName := ⟨RX4, "year", "(I)I"⟩
def dkwX4_year_0 : List UInt8 := [42, 182, 0, 116, 42, 42, 27, 182, 0, 146, 182, 0, 122, 172]
abbrev dktX4_year_0 : List UInt8 := dkwX4_year_0 ++ []
theorem dksX4_year_0 : cX4_year.data.toList.drop 0 = dktX4_year_0 := by decide +kernel
theorem dX4_year_0 : decode cX4_year 0 = .ok (.aload_n 0, 1) := dk_42 (dk_at dksX4_year_0 0 rfl rfl)
theorem dX4_year_1 : decode cX4_year 1 = .ok (.invokevirtual 116, 3) := dk_182 0 116 (dk_at dksX4_year_0 1 rfl rfl)
theorem dX4_year_4 : decode cX4_year 4 = .ok (.aload_n 0, 1) := dk_42 (dk_at dksX4_year_0 4 rfl rfl)
theorem dX4_year_5 : decode cX4_year 5 = .ok (.aload_n 0, 1) := dk_42 (dk_at dksX4_year_0 5 rfl rfl)
theorem dX4_year_6 : decode cX4_year 6 = .ok (.iload_n 1, 1) := dk_27 (dk_at dksX4_year_0 6 rfl rfl)
theorem dX4_year_7 : decode cX4_year 7 = .ok (.invokevirtual 146, 3) := dk_182 0 146 (dk_at dksX4_year_0 7 rfl rfl)
theorem dX4_year_10 : decode cX4_year 10 = .ok (.invokevirtual 122, 3) := dk_182 0 122 (dk_at dksX4_year_0 10 rfl rfl)
theorem dX4_year_13 : decode cX4_year 13 = .ok (.ireturn, 1) := dk_172 (dk_at dksX4_year_0 13 rfl rfl)
abbrev cX4_doYear : ByteArray := prog_21_method_26_code
def yX4_doYear : MethodName := ⟨RX4, "doYear", "(I)I"⟩
def dkwX4_doYear_3 : List UInt8 := [3, 92, 46, 27, 96, 79, 28, 172]
abbrev dktX4_doYear_3 : List UInt8 := dkwX4_doYear_3 ++ []
def dkwX4_doYear_2 : List UInt8 := [29, 182, 0, 143, 158, 0, 7, 4, 167, 0, 4, 3, 96, 61, 132, 3, 1, 167, 255, 213, 42, 180, 0, 9]
abbrev dktX4_doYear_2 : List UInt8 := dkwX4_doYear_2 ++ dktX4_doYear_3
def dkwX4_doYear_1 : List UInt8 := [180, 0, 9, 4, 46, 162, 0, 39, 42, 29, 5, 42, 29, 5, 182, 0, 101, 27, 96, 182, 0, 125, 28, 42]
abbrev dktX4_doYear_1 : List UInt8 := dkwX4_doYear_1 ++ dktX4_doYear_2
def dkwX4_doYear_0 : List UInt8 := [27, 4, 16, 9, 184, 0, 87, 154, 0, 9, 42, 4, 182, 0, 119, 172, 3, 61, 3, 62, 29, 42]
abbrev dktX4_doYear_0 : List UInt8 := dkwX4_doYear_0 ++ dktX4_doYear_1
theorem dksX4_doYear_0 : cX4_doYear.data.toList.drop 0 = dktX4_doYear_0 := by decide +kernel
theorem dksX4_doYear_1 : cX4_doYear.data.toList.drop 22 = dktX4_doYear_1 := dk_seg dksX4_doYear_0 22 rfl rfl
theorem dksX4_doYear_2 : cX4_doYear.data.toList.drop 46 = dktX4_doYear_2 := dk_seg dksX4_doYear_1 24 rfl rfl
theorem dksX4_doYear_3 : cX4_doYear.data.toList.drop 70 = dktX4_doYear_3 := dk_seg dksX4_doYear_2 24 rfl rfl
theorem dX4_doYear_0 : decode cX4_doYear 0 = .ok (.iload_n 1, 1) := dk_27 (dk_at dksX4_doYear_0 0 rfl rfl)
theorem dX4_doYear_1 : decode cX4_doYear 1 = .ok (.iconst 1, 1) := dk_4 (dk_at dksX4_doYear_0 1 rfl rfl)
theorem dX4_doYear_2 : decode cX4_doYear 2 = .ok (.bipush 9, 2) := dk_16 9 (dk_at dksX4_doYear_0 2 rfl rfl)
theorem dX4_doYear_4 : decode cX4_doYear 4 = .ok (.invokestatic 87, 3) := dk_184 0 87 (dk_at dksX4_doYear_0 4 rfl rfl)
theorem dX4_doYear_7 : decode cX4_doYear 7 = .ok (.ifCond .ne 9, 3) := dk_154 0 9 (dk_at dksX4_doYear_0 7 rfl rfl)
theorem dX4_doYear_10 : decode cX4_doYear 10 = .ok (.aload_n 0, 1) := dk_42 (dk_at dksX4_doYear_0 10 rfl rfl)
theorem dX4_doYear_11 : decode cX4_doYear 11 = .ok (.iconst 1, 1) := dk_4 (dk_at dksX4_doYear_0 11 rfl rfl)
theorem dX4_doYear_12 : decode cX4_doYear 12 = .ok (.invokevirtual 119, 3) := dk_182 0 119 (dk_at dksX4_doYear_0 12 rfl rfl)
theorem dX4_doYear_15 : decode cX4_doYear 15 = .ok (.ireturn, 1) := dk_172 (dk_at dksX4_doYear_0 15 rfl rfl)
theorem dX4_doYear_16 : decode cX4_doYear 16 = .ok (.iconst 0, 1) := dk_3 (dk_at dksX4_doYear_0 16 rfl rfl)
theorem dX4_doYear_17 : decode cX4_doYear 17 = .ok (.istore_n 2, 1) := dk_61 (dk_at dksX4_doYear_0 17 rfl rfl)
theorem dX4_doYear_18 : decode cX4_doYear 18 = .ok (.iconst 0, 1) := dk_3 (dk_at dksX4_doYear_0 18 rfl rfl)
theorem dX4_doYear_19 : decode cX4_doYear 19 = .ok (.istore_n 3, 1) := dk_62 (dk_at dksX4_doYear_0 19 rfl rfl)
theorem dX4_doYear_20 : decode cX4_doYear 20 = .ok (.iload_n 3, 1) := dk_29 (dk_at dksX4_doYear_0 20 rfl rfl)
theorem dX4_doYear_21 : decode cX4_doYear 21 = .ok (.aload_n 0, 1) := dk_42 (dk_at dksX4_doYear_0 21 rfl rfl)
theorem dX4_doYear_22 : decode cX4_doYear 22 = .ok (.getfield 9, 3) := dk_180 0 9 (dk_at dksX4_doYear_1 0 rfl rfl)
theorem dX4_doYear_25 : decode cX4_doYear 25 = .ok (.iconst 1, 1) := dk_4 (dk_at dksX4_doYear_1 3 rfl rfl)
theorem dX4_doYear_26 : decode cX4_doYear 26 = .ok (.iaload, 1) := dk_46 (dk_at dksX4_doYear_1 4 rfl rfl)
theorem dX4_doYear_27 : decode cX4_doYear 27 = .ok (.if_icmp .ge 39, 3) := dk_162 0 39 (dk_at dksX4_doYear_1 5 rfl rfl)
theorem dX4_doYear_30 : decode cX4_doYear 30 = .ok (.aload_n 0, 1) := dk_42 (dk_at dksX4_doYear_1 8 rfl rfl)
theorem dX4_doYear_31 : decode cX4_doYear 31 = .ok (.iload_n 3, 1) := dk_29 (dk_at dksX4_doYear_1 9 rfl rfl)
theorem dX4_doYear_32 : decode cX4_doYear 32 = .ok (.iconst 2, 1) := dk_5 (dk_at dksX4_doYear_1 10 rfl rfl)
theorem dX4_doYear_33 : decode cX4_doYear 33 = .ok (.aload_n 0, 1) := dk_42 (dk_at dksX4_doYear_1 11 rfl rfl)
theorem dX4_doYear_34 : decode cX4_doYear 34 = .ok (.iload_n 3, 1) := dk_29 (dk_at dksX4_doYear_1 12 rfl rfl)
theorem dX4_doYear_35 : decode cX4_doYear 35 = .ok (.iconst 2, 1) := dk_5 (dk_at dksX4_doYear_1 13 rfl rfl)
theorem dX4_doYear_36 : decode cX4_doYear 36 = .ok (.invokevirtual 101, 3) := dk_182 0 101 (dk_at dksX4_doYear_1 14 rfl rfl)
theorem dX4_doYear_39 : decode cX4_doYear 39 = .ok (.iload_n 1, 1) := dk_27 (dk_at dksX4_doYear_1 17 rfl rfl)
theorem dX4_doYear_40 : decode cX4_doYear 40 = .ok (.iadd, 1) := dk_96 (dk_at dksX4_doYear_1 18 rfl rfl)
theorem dX4_doYear_41 : decode cX4_doYear 41 = .ok (.invokevirtual 125, 3) := dk_182 0 125 (dk_at dksX4_doYear_1 19 rfl rfl)
theorem dX4_doYear_44 : decode cX4_doYear 44 = .ok (.iload_n 2, 1) := dk_28 (dk_at dksX4_doYear_1 22 rfl rfl)
theorem dX4_doYear_45 : decode cX4_doYear 45 = .ok (.aload_n 0, 1) := dk_42 (dk_at dksX4_doYear_1 23 rfl rfl)
theorem dX4_doYear_46 : decode cX4_doYear 46 = .ok (.iload_n 3, 1) := dk_29 (dk_at dksX4_doYear_2 0 rfl rfl)
theorem dX4_doYear_47 : decode cX4_doYear 47 = .ok (.invokevirtual 143, 3) := dk_182 0 143 (dk_at dksX4_doYear_2 1 rfl rfl)
theorem dX4_doYear_50 : decode cX4_doYear 50 = .ok (.ifCond .le 7, 3) := dk_158 0 7 (dk_at dksX4_doYear_2 4 rfl rfl)
theorem dX4_doYear_53 : decode cX4_doYear 53 = .ok (.iconst 1, 1) := dk_4 (dk_at dksX4_doYear_2 7 rfl rfl)
theorem dX4_doYear_54 : decode cX4_doYear 54 = .ok (.goto 4, 3) := dk_167 0 4 (dk_at dksX4_doYear_2 8 rfl rfl)
theorem dX4_doYear_57 : decode cX4_doYear 57 = .ok (.iconst 0, 1) := dk_3 (dk_at dksX4_doYear_2 11 rfl rfl)
theorem dX4_doYear_58 : decode cX4_doYear 58 = .ok (.iadd, 1) := dk_96 (dk_at dksX4_doYear_2 12 rfl rfl)
theorem dX4_doYear_59 : decode cX4_doYear 59 = .ok (.istore_n 2, 1) := dk_61 (dk_at dksX4_doYear_2 13 rfl rfl)
theorem dX4_doYear_60 : decode cX4_doYear 60 = .ok (.iinc 3 1, 3) := dk_132 3 1 (dk_at dksX4_doYear_2 14 rfl rfl)
theorem dX4_doYear_63 : decode cX4_doYear 63 = .ok (.goto (-43), 3) := dk_167 255 213 (dk_at dksX4_doYear_2 17 rfl rfl)
theorem dX4_doYear_66 : decode cX4_doYear 66 = .ok (.aload_n 0, 1) := dk_42 (dk_at dksX4_doYear_2 20 rfl rfl)
theorem dX4_doYear_67 : decode cX4_doYear 67 = .ok (.getfield 9, 3) := dk_180 0 9 (dk_at dksX4_doYear_2 21 rfl rfl)
theorem dX4_doYear_70 : decode cX4_doYear 70 = .ok (.iconst 0, 1) := dk_3 (dk_at dksX4_doYear_3 0 rfl rfl)
theorem dX4_doYear_71 : decode cX4_doYear 71 = .ok (.dup2, 1) := dk_92 (dk_at dksX4_doYear_3 1 rfl rfl)
theorem dX4_doYear_72 : decode cX4_doYear 72 = .ok (.iaload, 1) := dk_46 (dk_at dksX4_doYear_3 2 rfl rfl)
theorem dX4_doYear_73 : decode cX4_doYear 73 = .ok (.iload_n 1, 1) := dk_27 (dk_at dksX4_doYear_3 3 rfl rfl)
theorem dX4_doYear_74 : decode cX4_doYear 74 = .ok (.iadd, 1) := dk_96 (dk_at dksX4_doYear_3 4 rfl rfl)
theorem dX4_doYear_75 : decode cX4_doYear 75 = .ok (.iastore, 1) := dk_79 (dk_at dksX4_doYear_3 5 rfl rfl)
theorem dX4_doYear_76 : decode cX4_doYear 76 = .ok (.iload_n 2, 1) := dk_28 (dk_at dksX4_doYear_3 6 rfl rfl)
theorem dX4_doYear_77 : decode cX4_doYear 77 = .ok (.ireturn, 1) := dk_172 (dk_at dksX4_doYear_3 7 rfl rfl)
abbrev cX4_lacks : ByteArray := prog_21_method_21_code
def yX4_lacks : MethodName := ⟨RX4, "lacks", "(I)I"⟩
def dkwX4_lacks_1 : List UInt8 := [184, 0, 110, 172]
abbrev dktX4_lacks_1 : List UInt8 := dkwX4_lacks_1 ++ []
def dkwX4_lacks_0 : List UInt8 := [3, 42, 27, 182, 0, 98, 16, 10, 42, 27, 4, 182, 0, 101, 104, 96, 42, 27, 182, 0, 113, 100]
abbrev dktX4_lacks_0 : List UInt8 := dkwX4_lacks_0 ++ dktX4_lacks_1
theorem dksX4_lacks_0 : cX4_lacks.data.toList.drop 0 = dktX4_lacks_0 := by decide +kernel
theorem dksX4_lacks_1 : cX4_lacks.data.toList.drop 22 = dktX4_lacks_1 := dk_seg dksX4_lacks_0 22 rfl rfl
theorem dX4_lacks_0 : decode cX4_lacks 0 = .ok (.iconst 0, 1) := dk_3 (dk_at dksX4_lacks_0 0 rfl rfl)
theorem dX4_lacks_1 : decode cX4_lacks 1 = .ok (.aload_n 0, 1) := dk_42 (dk_at dksX4_lacks_0 1 rfl rfl)
theorem dX4_lacks_2 : decode cX4_lacks 2 = .ok (.iload_n 1, 1) := dk_27 (dk_at dksX4_lacks_0 2 rfl rfl)
theorem dX4_lacks_3 : decode cX4_lacks 3 = .ok (.invokevirtual 98, 3) := dk_182 0 98 (dk_at dksX4_lacks_0 3 rfl rfl)
theorem dX4_lacks_6 : decode cX4_lacks 6 = .ok (.bipush 10, 2) := dk_16 10 (dk_at dksX4_lacks_0 6 rfl rfl)
theorem dX4_lacks_8 : decode cX4_lacks 8 = .ok (.aload_n 0, 1) := dk_42 (dk_at dksX4_lacks_0 8 rfl rfl)
theorem dX4_lacks_9 : decode cX4_lacks 9 = .ok (.iload_n 1, 1) := dk_27 (dk_at dksX4_lacks_0 9 rfl rfl)
theorem dX4_lacks_10 : decode cX4_lacks 10 = .ok (.iconst 1, 1) := dk_4 (dk_at dksX4_lacks_0 10 rfl rfl)
theorem dX4_lacks_11 : decode cX4_lacks 11 = .ok (.invokevirtual 101, 3) := dk_182 0 101 (dk_at dksX4_lacks_0 11 rfl rfl)
theorem dX4_lacks_14 : decode cX4_lacks 14 = .ok (.imul, 1) := dk_104 (dk_at dksX4_lacks_0 14 rfl rfl)
theorem dX4_lacks_15 : decode cX4_lacks 15 = .ok (.iadd, 1) := dk_96 (dk_at dksX4_lacks_0 15 rfl rfl)
theorem dX4_lacks_16 : decode cX4_lacks 16 = .ok (.aload_n 0, 1) := dk_42 (dk_at dksX4_lacks_0 16 rfl rfl)
theorem dX4_lacks_17 : decode cX4_lacks 17 = .ok (.iload_n 1, 1) := dk_27 (dk_at dksX4_lacks_0 17 rfl rfl)
theorem dX4_lacks_18 : decode cX4_lacks 18 = .ok (.invokevirtual 113, 3) := dk_182 0 113 (dk_at dksX4_lacks_0 18 rfl rfl)
theorem dX4_lacks_21 : decode cX4_lacks 21 = .ok (.isub, 1) := dk_100 (dk_at dksX4_lacks_0 21 rfl rfl)
theorem dX4_lacks_22 : decode cX4_lacks 22 = .ok (.invokestatic 110, 3) := dk_184 0 110 (dk_at dksX4_lacks_1 0 rfl rfl)
theorem dX4_lacks_25 : decode cX4_lacks 25 = .ok (.ireturn, 1) := dk_172 (dk_at dksX4_lacks_1 3 rfl rfl)
abbrev cX4_curtain : ByteArray := prog_21_method_28_code
def yX4_curtain : MethodName := ⟨RX4, "curtain", "(I)I"⟩
def dkwX4_curtain_3 : List UInt8 := [46, 4, 96, 79, 42, 28, 182, 0, 122, 172]
abbrev dktX4_curtain_3 : List UInt8 := dkwX4_curtain_3 ++ []
def dkwX4_curtain_2 : List UInt8 := [104, 96, 27, 79, 42, 180, 0, 9, 16, 43, 5, 28, 104, 96, 4, 96, 2, 79, 42, 180, 0, 9, 5, 92]
abbrev dktX4_curtain_2 : List UInt8 := dkwX4_curtain_2 ++ dktX4_curtain_3
def dkwX4_curtain_1 : List UInt8 := [182, 0, 119, 172, 28, 16, 12, 160, 0, 9, 42, 5, 182, 0, 119, 172, 42, 180, 0, 9, 16, 43, 5, 28]
abbrev dktX4_curtain_1 : List UInt8 := dkwX4_curtain_1 ++ dktX4_curtain_2
def dkwX4_curtain_0 : List UInt8 := [42, 180, 0, 9, 5, 46, 61, 42, 182, 0, 116, 27, 8, 16, 90, 184, 0, 87, 154, 0, 9, 42, 4]
abbrev dktX4_curtain_0 : List UInt8 := dkwX4_curtain_0 ++ dktX4_curtain_1
theorem dksX4_curtain_0 : cX4_curtain.data.toList.drop 0 = dktX4_curtain_0 := by decide +kernel
theorem dksX4_curtain_1 : cX4_curtain.data.toList.drop 23 = dktX4_curtain_1 := dk_seg dksX4_curtain_0 23 rfl rfl
theorem dksX4_curtain_2 : cX4_curtain.data.toList.drop 47 = dktX4_curtain_2 := dk_seg dksX4_curtain_1 24 rfl rfl
theorem dksX4_curtain_3 : cX4_curtain.data.toList.drop 71 = dktX4_curtain_3 := dk_seg dksX4_curtain_2 24 rfl rfl
theorem dX4_curtain_0 : decode cX4_curtain 0 = .ok (.aload_n 0, 1) := dk_42 (dk_at dksX4_curtain_0 0 rfl rfl)
theorem dX4_curtain_1 : decode cX4_curtain 1 = .ok (.getfield 9, 3) := dk_180 0 9 (dk_at dksX4_curtain_0 1 rfl rfl)
theorem dX4_curtain_4 : decode cX4_curtain 4 = .ok (.iconst 2, 1) := dk_5 (dk_at dksX4_curtain_0 4 rfl rfl)
theorem dX4_curtain_5 : decode cX4_curtain 5 = .ok (.iaload, 1) := dk_46 (dk_at dksX4_curtain_0 5 rfl rfl)
theorem dX4_curtain_6 : decode cX4_curtain 6 = .ok (.istore_n 2, 1) := dk_61 (dk_at dksX4_curtain_0 6 rfl rfl)
theorem dX4_curtain_7 : decode cX4_curtain 7 = .ok (.aload_n 0, 1) := dk_42 (dk_at dksX4_curtain_0 7 rfl rfl)
theorem dX4_curtain_8 : decode cX4_curtain 8 = .ok (.invokevirtual 116, 3) := dk_182 0 116 (dk_at dksX4_curtain_0 8 rfl rfl)
theorem dX4_curtain_11 : decode cX4_curtain 11 = .ok (.iload_n 1, 1) := dk_27 (dk_at dksX4_curtain_0 11 rfl rfl)
theorem dX4_curtain_12 : decode cX4_curtain 12 = .ok (.iconst 5, 1) := dk_8 (dk_at dksX4_curtain_0 12 rfl rfl)
theorem dX4_curtain_13 : decode cX4_curtain 13 = .ok (.bipush 90, 2) := dk_16 90 (dk_at dksX4_curtain_0 13 rfl rfl)
theorem dX4_curtain_15 : decode cX4_curtain 15 = .ok (.invokestatic 87, 3) := dk_184 0 87 (dk_at dksX4_curtain_0 15 rfl rfl)
theorem dX4_curtain_18 : decode cX4_curtain 18 = .ok (.ifCond .ne 9, 3) := dk_154 0 9 (dk_at dksX4_curtain_0 18 rfl rfl)
theorem dX4_curtain_21 : decode cX4_curtain 21 = .ok (.aload_n 0, 1) := dk_42 (dk_at dksX4_curtain_0 21 rfl rfl)
theorem dX4_curtain_22 : decode cX4_curtain 22 = .ok (.iconst 1, 1) := dk_4 (dk_at dksX4_curtain_0 22 rfl rfl)
theorem dX4_curtain_23 : decode cX4_curtain 23 = .ok (.invokevirtual 119, 3) := dk_182 0 119 (dk_at dksX4_curtain_1 0 rfl rfl)
theorem dX4_curtain_26 : decode cX4_curtain 26 = .ok (.ireturn, 1) := dk_172 (dk_at dksX4_curtain_1 3 rfl rfl)
theorem dX4_curtain_27 : decode cX4_curtain 27 = .ok (.iload_n 2, 1) := dk_28 (dk_at dksX4_curtain_1 4 rfl rfl)
theorem dX4_curtain_28 : decode cX4_curtain 28 = .ok (.bipush 12, 2) := dk_16 12 (dk_at dksX4_curtain_1 5 rfl rfl)
theorem dX4_curtain_30 : decode cX4_curtain 30 = .ok (.if_icmp .ne 9, 3) := dk_160 0 9 (dk_at dksX4_curtain_1 7 rfl rfl)
theorem dX4_curtain_33 : decode cX4_curtain 33 = .ok (.aload_n 0, 1) := dk_42 (dk_at dksX4_curtain_1 10 rfl rfl)
theorem dX4_curtain_34 : decode cX4_curtain 34 = .ok (.iconst 2, 1) := dk_5 (dk_at dksX4_curtain_1 11 rfl rfl)
theorem dX4_curtain_35 : decode cX4_curtain 35 = .ok (.invokevirtual 119, 3) := dk_182 0 119 (dk_at dksX4_curtain_1 12 rfl rfl)
theorem dX4_curtain_38 : decode cX4_curtain 38 = .ok (.ireturn, 1) := dk_172 (dk_at dksX4_curtain_1 15 rfl rfl)
theorem dX4_curtain_39 : decode cX4_curtain 39 = .ok (.aload_n 0, 1) := dk_42 (dk_at dksX4_curtain_1 16 rfl rfl)
theorem dX4_curtain_40 : decode cX4_curtain 40 = .ok (.getfield 9, 3) := dk_180 0 9 (dk_at dksX4_curtain_1 17 rfl rfl)
theorem dX4_curtain_43 : decode cX4_curtain 43 = .ok (.bipush 43, 2) := dk_16 43 (dk_at dksX4_curtain_1 20 rfl rfl)
theorem dX4_curtain_45 : decode cX4_curtain 45 = .ok (.iconst 2, 1) := dk_5 (dk_at dksX4_curtain_1 22 rfl rfl)
theorem dX4_curtain_46 : decode cX4_curtain 46 = .ok (.iload_n 2, 1) := dk_28 (dk_at dksX4_curtain_1 23 rfl rfl)
theorem dX4_curtain_47 : decode cX4_curtain 47 = .ok (.imul, 1) := dk_104 (dk_at dksX4_curtain_2 0 rfl rfl)
theorem dX4_curtain_48 : decode cX4_curtain 48 = .ok (.iadd, 1) := dk_96 (dk_at dksX4_curtain_2 1 rfl rfl)
theorem dX4_curtain_49 : decode cX4_curtain 49 = .ok (.iload_n 1, 1) := dk_27 (dk_at dksX4_curtain_2 2 rfl rfl)
theorem dX4_curtain_50 : decode cX4_curtain 50 = .ok (.iastore, 1) := dk_79 (dk_at dksX4_curtain_2 3 rfl rfl)
theorem dX4_curtain_51 : decode cX4_curtain 51 = .ok (.aload_n 0, 1) := dk_42 (dk_at dksX4_curtain_2 4 rfl rfl)
theorem dX4_curtain_52 : decode cX4_curtain 52 = .ok (.getfield 9, 3) := dk_180 0 9 (dk_at dksX4_curtain_2 5 rfl rfl)
theorem dX4_curtain_55 : decode cX4_curtain 55 = .ok (.bipush 43, 2) := dk_16 43 (dk_at dksX4_curtain_2 8 rfl rfl)
theorem dX4_curtain_57 : decode cX4_curtain 57 = .ok (.iconst 2, 1) := dk_5 (dk_at dksX4_curtain_2 10 rfl rfl)
theorem dX4_curtain_58 : decode cX4_curtain 58 = .ok (.iload_n 2, 1) := dk_28 (dk_at dksX4_curtain_2 11 rfl rfl)
theorem dX4_curtain_59 : decode cX4_curtain 59 = .ok (.imul, 1) := dk_104 (dk_at dksX4_curtain_2 12 rfl rfl)
theorem dX4_curtain_60 : decode cX4_curtain 60 = .ok (.iadd, 1) := dk_96 (dk_at dksX4_curtain_2 13 rfl rfl)
theorem dX4_curtain_61 : decode cX4_curtain 61 = .ok (.iconst 1, 1) := dk_4 (dk_at dksX4_curtain_2 14 rfl rfl)
theorem dX4_curtain_62 : decode cX4_curtain 62 = .ok (.iadd, 1) := dk_96 (dk_at dksX4_curtain_2 15 rfl rfl)
theorem dX4_curtain_63 : decode cX4_curtain 63 = .ok (.iconst (-1), 1) := dk_2 (dk_at dksX4_curtain_2 16 rfl rfl)
theorem dX4_curtain_64 : decode cX4_curtain 64 = .ok (.iastore, 1) := dk_79 (dk_at dksX4_curtain_2 17 rfl rfl)
theorem dX4_curtain_65 : decode cX4_curtain 65 = .ok (.aload_n 0, 1) := dk_42 (dk_at dksX4_curtain_2 18 rfl rfl)
theorem dX4_curtain_66 : decode cX4_curtain 66 = .ok (.getfield 9, 3) := dk_180 0 9 (dk_at dksX4_curtain_2 19 rfl rfl)
theorem dX4_curtain_69 : decode cX4_curtain 69 = .ok (.iconst 2, 1) := dk_5 (dk_at dksX4_curtain_2 22 rfl rfl)
theorem dX4_curtain_70 : decode cX4_curtain 70 = .ok (.dup2, 1) := dk_92 (dk_at dksX4_curtain_2 23 rfl rfl)
theorem dX4_curtain_71 : decode cX4_curtain 71 = .ok (.iaload, 1) := dk_46 (dk_at dksX4_curtain_3 0 rfl rfl)
theorem dX4_curtain_72 : decode cX4_curtain 72 = .ok (.iconst 1, 1) := dk_4 (dk_at dksX4_curtain_3 1 rfl rfl)
theorem dX4_curtain_73 : decode cX4_curtain 73 = .ok (.iadd, 1) := dk_96 (dk_at dksX4_curtain_3 2 rfl rfl)
theorem dX4_curtain_74 : decode cX4_curtain 74 = .ok (.iastore, 1) := dk_79 (dk_at dksX4_curtain_3 3 rfl rfl)
theorem dX4_curtain_75 : decode cX4_curtain 75 = .ok (.aload_n 0, 1) := dk_42 (dk_at dksX4_curtain_3 4 rfl rfl)
theorem dX4_curtain_76 : decode cX4_curtain 76 = .ok (.iload_n 2, 1) := dk_28 (dk_at dksX4_curtain_3 5 rfl rfl)
theorem dX4_curtain_77 : decode cX4_curtain 77 = .ok (.invokevirtual 122, 3) := dk_182 0 122 (dk_at dksX4_curtain_3 6 rfl rfl)
theorem dX4_curtain_80 : decode cX4_curtain 80 = .ok (.ireturn, 1) := dk_172 (dk_at dksX4_curtain_3 9 rfl rfl)
abbrev cX4_barOfCurtain : ByteArray := prog_21_method_29_code
def yX4_barOfCurtain : MethodName := ⟨RX4, "barOfCurtain", "(I)I"⟩
def dkwX4_barOfCurtain_1 : List UInt8 := [3, 167, 0, 8, 42, 27, 182, 0, 91, 172]
abbrev dktX4_barOfCurtain_1 : List UInt8 := dkwX4_barOfCurtain_1 ++ []
def dkwX4_barOfCurtain_0 : List UInt8 := [42, 42, 27, 182, 0, 149, 153, 0, 7, 3, 167, 0, 4, 4, 181, 0, 69, 42, 180, 0, 69, 158, 0, 7]
abbrev dktX4_barOfCurtain_0 : List UInt8 := dkwX4_barOfCurtain_0 ++ dktX4_barOfCurtain_1
theorem dksX4_barOfCurtain_0 : cX4_barOfCurtain.data.toList.drop 0 = dktX4_barOfCurtain_0 := by decide +kernel
theorem dksX4_barOfCurtain_1 : cX4_barOfCurtain.data.toList.drop 24 = dktX4_barOfCurtain_1 := dk_seg dksX4_barOfCurtain_0 24 rfl rfl
theorem dX4_barOfCurtain_0 : decode cX4_barOfCurtain 0 = .ok (.aload_n 0, 1) := dk_42 (dk_at dksX4_barOfCurtain_0 0 rfl rfl)
theorem dX4_barOfCurtain_1 : decode cX4_barOfCurtain 1 = .ok (.aload_n 0, 1) := dk_42 (dk_at dksX4_barOfCurtain_0 1 rfl rfl)
theorem dX4_barOfCurtain_2 : decode cX4_barOfCurtain 2 = .ok (.iload_n 1, 1) := dk_27 (dk_at dksX4_barOfCurtain_0 2 rfl rfl)
theorem dX4_barOfCurtain_3 : decode cX4_barOfCurtain 3 = .ok (.invokevirtual 149, 3) := dk_182 0 149 (dk_at dksX4_barOfCurtain_0 3 rfl rfl)
theorem dX4_barOfCurtain_6 : decode cX4_barOfCurtain 6 = .ok (.ifCond .eq 7, 3) := dk_153 0 7 (dk_at dksX4_barOfCurtain_0 6 rfl rfl)
theorem dX4_barOfCurtain_9 : decode cX4_barOfCurtain 9 = .ok (.iconst 0, 1) := dk_3 (dk_at dksX4_barOfCurtain_0 9 rfl rfl)
theorem dX4_barOfCurtain_10 : decode cX4_barOfCurtain 10 = .ok (.goto 4, 3) := dk_167 0 4 (dk_at dksX4_barOfCurtain_0 10 rfl rfl)
theorem dX4_barOfCurtain_13 : decode cX4_barOfCurtain 13 = .ok (.iconst 1, 1) := dk_4 (dk_at dksX4_barOfCurtain_0 13 rfl rfl)
theorem dX4_barOfCurtain_14 : decode cX4_barOfCurtain 14 = .ok (.putfield 69, 3) := dk_181 0 69 (dk_at dksX4_barOfCurtain_0 14 rfl rfl)
theorem dX4_barOfCurtain_17 : decode cX4_barOfCurtain 17 = .ok (.aload_n 0, 1) := dk_42 (dk_at dksX4_barOfCurtain_0 17 rfl rfl)
theorem dX4_barOfCurtain_18 : decode cX4_barOfCurtain 18 = .ok (.getfield 69, 3) := dk_180 0 69 (dk_at dksX4_barOfCurtain_0 18 rfl rfl)
theorem dX4_barOfCurtain_21 : decode cX4_barOfCurtain 21 = .ok (.ifCond .le 7, 3) := dk_158 0 7 (dk_at dksX4_barOfCurtain_0 21 rfl rfl)
theorem dX4_barOfCurtain_24 : decode cX4_barOfCurtain 24 = .ok (.iconst 0, 1) := dk_3 (dk_at dksX4_barOfCurtain_1 0 rfl rfl)
theorem dX4_barOfCurtain_25 : decode cX4_barOfCurtain 25 = .ok (.goto 8, 3) := dk_167 0 8 (dk_at dksX4_barOfCurtain_1 1 rfl rfl)
theorem dX4_barOfCurtain_28 : decode cX4_barOfCurtain 28 = .ok (.aload_n 0, 1) := dk_42 (dk_at dksX4_barOfCurtain_1 4 rfl rfl)
theorem dX4_barOfCurtain_29 : decode cX4_barOfCurtain 29 = .ok (.iload_n 1, 1) := dk_27 (dk_at dksX4_barOfCurtain_1 5 rfl rfl)
theorem dX4_barOfCurtain_30 : decode cX4_barOfCurtain 30 = .ok (.invokevirtual 91, 3) := dk_182 0 91 (dk_at dksX4_barOfCurtain_1 6 rfl rfl)
theorem dX4_barOfCurtain_33 : decode cX4_barOfCurtain 33 = .ok (.ireturn, 1) := dk_172 (dk_at dksX4_barOfCurtain_1 9 rfl rfl)
abbrev cX4_isCurtain : ByteArray := prog_21_method_14_code
def yX4_isCurtain : MethodName := ⟨RX4, "isCurtain", "(I)Z"⟩
def dkwX4_isCurtain_0 : List UInt8 := [27, 3, 42, 180, 0, 9, 5, 46, 4, 100, 184, 0, 87, 172]
abbrev dktX4_isCurtain_0 : List UInt8 := dkwX4_isCurtain_0 ++ []
theorem dksX4_isCurtain_0 : cX4_isCurtain.data.toList.drop 0 = dktX4_isCurtain_0 := by decide +kernel
theorem dX4_isCurtain_0 : decode cX4_isCurtain 0 = .ok (.iload_n 1, 1) := dk_27 (dk_at dksX4_isCurtain_0 0 rfl rfl)
theorem dX4_isCurtain_1 : decode cX4_isCurtain 1 = .ok (.iconst 0, 1) := dk_3 (dk_at dksX4_isCurtain_0 1 rfl rfl)
theorem dX4_isCurtain_2 : decode cX4_isCurtain 2 = .ok (.aload_n 0, 1) := dk_42 (dk_at dksX4_isCurtain_0 2 rfl rfl)
theorem dX4_isCurtain_3 : decode cX4_isCurtain 3 = .ok (.getfield 9, 3) := dk_180 0 9 (dk_at dksX4_isCurtain_0 3 rfl rfl)
theorem dX4_isCurtain_6 : decode cX4_isCurtain 6 = .ok (.iconst 2, 1) := dk_5 (dk_at dksX4_isCurtain_0 6 rfl rfl)
theorem dX4_isCurtain_7 : decode cX4_isCurtain 7 = .ok (.iaload, 1) := dk_46 (dk_at dksX4_isCurtain_0 7 rfl rfl)
theorem dX4_isCurtain_8 : decode cX4_isCurtain 8 = .ok (.iconst 1, 1) := dk_4 (dk_at dksX4_isCurtain_0 8 rfl rfl)
theorem dX4_isCurtain_9 : decode cX4_isCurtain 9 = .ok (.isub, 1) := dk_100 (dk_at dksX4_isCurtain_0 9 rfl rfl)
theorem dX4_isCurtain_10 : decode cX4_isCurtain 10 = .ok (.invokestatic 87, 3) := dk_184 0 87 (dk_at dksX4_isCurtain_0 10 rfl rfl)
theorem dX4_isCurtain_13 : decode cX4_isCurtain 13 = .ok (.ireturn, 1) := dk_172 (dk_at dksX4_isCurtain_0 13 rfl rfl)
abbrev cX4_curtainOn : ByteArray := prog_21_method_30_code
def yX4_curtainOn : MethodName := ⟨RX4, "curtainOn", "(II)I"⟩
def dkwX4_curtainOn_2 : List UInt8 := [3, 181, 0, 69, 21, 4, 172, 132, 3, 1, 132, 4, 1, 167, 255, 216, 42, 5, 182, 0, 119, 172]
abbrev dktX4_curtainOn_2 : List UInt8 := dkwX4_curtainOn_2 ++ []
def dkwX4_curtainOn_1 : List UInt8 := [180, 0, 9, 5, 46, 162, 0, 35, 42, 21, 4, 182, 0, 91, 27, 160, 0, 19, 29, 28, 160, 0, 11, 42]
abbrev dktX4_curtainOn_1 : List UInt8 := dkwX4_curtainOn_1 ++ dktX4_curtainOn_2
def dkwX4_curtainOn_0 : List UInt8 := [42, 27, 182, 0, 129, 154, 0, 9, 42, 4, 182, 0, 119, 172, 3, 62, 3, 54, 4, 21, 4, 42]
abbrev dktX4_curtainOn_0 : List UInt8 := dkwX4_curtainOn_0 ++ dktX4_curtainOn_1
theorem dksX4_curtainOn_0 : cX4_curtainOn.data.toList.drop 0 = dktX4_curtainOn_0 := by decide +kernel
theorem dksX4_curtainOn_1 : cX4_curtainOn.data.toList.drop 22 = dktX4_curtainOn_1 := dk_seg dksX4_curtainOn_0 22 rfl rfl
theorem dksX4_curtainOn_2 : cX4_curtainOn.data.toList.drop 46 = dktX4_curtainOn_2 := dk_seg dksX4_curtainOn_1 24 rfl rfl
theorem dX4_curtainOn_0 : decode cX4_curtainOn 0 = .ok (.aload_n 0, 1) := dk_42 (dk_at dksX4_curtainOn_0 0 rfl rfl)
theorem dX4_curtainOn_1 : decode cX4_curtainOn 1 = .ok (.iload_n 1, 1) := dk_27 (dk_at dksX4_curtainOn_0 1 rfl rfl)
theorem dX4_curtainOn_2 : decode cX4_curtainOn 2 = .ok (.invokevirtual 129, 3) := dk_182 0 129 (dk_at dksX4_curtainOn_0 2 rfl rfl)
theorem dX4_curtainOn_5 : decode cX4_curtainOn 5 = .ok (.ifCond .ne 9, 3) := dk_154 0 9 (dk_at dksX4_curtainOn_0 5 rfl rfl)
theorem dX4_curtainOn_8 : decode cX4_curtainOn 8 = .ok (.aload_n 0, 1) := dk_42 (dk_at dksX4_curtainOn_0 8 rfl rfl)
theorem dX4_curtainOn_9 : decode cX4_curtainOn 9 = .ok (.iconst 1, 1) := dk_4 (dk_at dksX4_curtainOn_0 9 rfl rfl)
theorem dX4_curtainOn_10 : decode cX4_curtainOn 10 = .ok (.invokevirtual 119, 3) := dk_182 0 119 (dk_at dksX4_curtainOn_0 10 rfl rfl)
theorem dX4_curtainOn_13 : decode cX4_curtainOn 13 = .ok (.ireturn, 1) := dk_172 (dk_at dksX4_curtainOn_0 13 rfl rfl)
theorem dX4_curtainOn_14 : decode cX4_curtainOn 14 = .ok (.iconst 0, 1) := dk_3 (dk_at dksX4_curtainOn_0 14 rfl rfl)
theorem dX4_curtainOn_15 : decode cX4_curtainOn 15 = .ok (.istore_n 3, 1) := dk_62 (dk_at dksX4_curtainOn_0 15 rfl rfl)
theorem dX4_curtainOn_16 : decode cX4_curtainOn 16 = .ok (.iconst 0, 1) := dk_3 (dk_at dksX4_curtainOn_0 16 rfl rfl)
theorem dX4_curtainOn_17 : decode cX4_curtainOn 17 = .ok (.istore 4, 2) := dk_54 4 (dk_at dksX4_curtainOn_0 17 rfl rfl)
theorem dX4_curtainOn_19 : decode cX4_curtainOn 19 = .ok (.iload 4, 2) := dk_21 4 (dk_at dksX4_curtainOn_0 19 rfl rfl)
theorem dX4_curtainOn_21 : decode cX4_curtainOn 21 = .ok (.aload_n 0, 1) := dk_42 (dk_at dksX4_curtainOn_0 21 rfl rfl)
theorem dX4_curtainOn_22 : decode cX4_curtainOn 22 = .ok (.getfield 9, 3) := dk_180 0 9 (dk_at dksX4_curtainOn_1 0 rfl rfl)
theorem dX4_curtainOn_25 : decode cX4_curtainOn 25 = .ok (.iconst 2, 1) := dk_5 (dk_at dksX4_curtainOn_1 3 rfl rfl)
theorem dX4_curtainOn_26 : decode cX4_curtainOn 26 = .ok (.iaload, 1) := dk_46 (dk_at dksX4_curtainOn_1 4 rfl rfl)
theorem dX4_curtainOn_27 : decode cX4_curtainOn 27 = .ok (.if_icmp .ge 35, 3) := dk_162 0 35 (dk_at dksX4_curtainOn_1 5 rfl rfl)
theorem dX4_curtainOn_30 : decode cX4_curtainOn 30 = .ok (.aload_n 0, 1) := dk_42 (dk_at dksX4_curtainOn_1 8 rfl rfl)
theorem dX4_curtainOn_31 : decode cX4_curtainOn 31 = .ok (.iload 4, 2) := dk_21 4 (dk_at dksX4_curtainOn_1 9 rfl rfl)
theorem dX4_curtainOn_33 : decode cX4_curtainOn 33 = .ok (.invokevirtual 91, 3) := dk_182 0 91 (dk_at dksX4_curtainOn_1 11 rfl rfl)
theorem dX4_curtainOn_36 : decode cX4_curtainOn 36 = .ok (.iload_n 1, 1) := dk_27 (dk_at dksX4_curtainOn_1 14 rfl rfl)
theorem dX4_curtainOn_37 : decode cX4_curtainOn 37 = .ok (.if_icmp .ne 19, 3) := dk_160 0 19 (dk_at dksX4_curtainOn_1 15 rfl rfl)
theorem dX4_curtainOn_40 : decode cX4_curtainOn 40 = .ok (.iload_n 3, 1) := dk_29 (dk_at dksX4_curtainOn_1 18 rfl rfl)
theorem dX4_curtainOn_41 : decode cX4_curtainOn 41 = .ok (.iload_n 2, 1) := dk_28 (dk_at dksX4_curtainOn_1 19 rfl rfl)
theorem dX4_curtainOn_42 : decode cX4_curtainOn 42 = .ok (.if_icmp .ne 11, 3) := dk_160 0 11 (dk_at dksX4_curtainOn_1 20 rfl rfl)
theorem dX4_curtainOn_45 : decode cX4_curtainOn 45 = .ok (.aload_n 0, 1) := dk_42 (dk_at dksX4_curtainOn_1 23 rfl rfl)
theorem dX4_curtainOn_46 : decode cX4_curtainOn 46 = .ok (.iconst 0, 1) := dk_3 (dk_at dksX4_curtainOn_2 0 rfl rfl)
theorem dX4_curtainOn_47 : decode cX4_curtainOn 47 = .ok (.putfield 69, 3) := dk_181 0 69 (dk_at dksX4_curtainOn_2 1 rfl rfl)
theorem dX4_curtainOn_50 : decode cX4_curtainOn 50 = .ok (.iload 4, 2) := dk_21 4 (dk_at dksX4_curtainOn_2 4 rfl rfl)
theorem dX4_curtainOn_52 : decode cX4_curtainOn 52 = .ok (.ireturn, 1) := dk_172 (dk_at dksX4_curtainOn_2 6 rfl rfl)
theorem dX4_curtainOn_53 : decode cX4_curtainOn 53 = .ok (.iinc 3 1, 3) := dk_132 3 1 (dk_at dksX4_curtainOn_2 7 rfl rfl)
theorem dX4_curtainOn_56 : decode cX4_curtainOn 56 = .ok (.iinc 4 1, 3) := dk_132 4 1 (dk_at dksX4_curtainOn_2 10 rfl rfl)
theorem dX4_curtainOn_59 : decode cX4_curtainOn 59 = .ok (.goto (-40), 3) := dk_167 255 216 (dk_at dksX4_curtainOn_2 13 rfl rfl)
theorem dX4_curtainOn_62 : decode cX4_curtainOn 62 = .ok (.aload_n 0, 1) := dk_42 (dk_at dksX4_curtainOn_2 16 rfl rfl)
theorem dX4_curtainOn_63 : decode cX4_curtainOn 63 = .ok (.iconst 2, 1) := dk_5 (dk_at dksX4_curtainOn_2 17 rfl rfl)
theorem dX4_curtainOn_64 : decode cX4_curtainOn 64 = .ok (.invokevirtual 119, 3) := dk_182 0 119 (dk_at dksX4_curtainOn_2 18 rfl rfl)
theorem dX4_curtainOn_67 : decode cX4_curtainOn 67 = .ok (.ireturn, 1) := dk_172 (dk_at dksX4_curtainOn_2 21 rfl rfl)
abbrev cX4_hang : ByteArray := prog_21_method_32_code
def yX4_hang : MethodName := ⟨RX4, "hang", "(II)I"⟩
def dkwX4_hang_0 : List UInt8 := [42, 182, 0, 116, 42, 42, 27, 28, 182, 0, 152, 182, 0, 122, 172]
abbrev dktX4_hang_0 : List UInt8 := dkwX4_hang_0 ++ []
theorem dksX4_hang_0 : cX4_hang.data.toList.drop 0 = dktX4_hang_0 := by decide +kernel
theorem dX4_hang_0 : decode cX4_hang 0 = .ok (.aload_n 0, 1) := dk_42 (dk_at dksX4_hang_0 0 rfl rfl)
theorem dX4_hang_1 : decode cX4_hang 1 = .ok (.invokevirtual 116, 3) := dk_182 0 116 (dk_at dksX4_hang_0 1 rfl rfl)
theorem dX4_hang_4 : decode cX4_hang 4 = .ok (.aload_n 0, 1) := dk_42 (dk_at dksX4_hang_0 4 rfl rfl)
theorem dX4_hang_5 : decode cX4_hang 5 = .ok (.aload_n 0, 1) := dk_42 (dk_at dksX4_hang_0 5 rfl rfl)
theorem dX4_hang_6 : decode cX4_hang 6 = .ok (.iload_n 1, 1) := dk_27 (dk_at dksX4_hang_0 6 rfl rfl)
theorem dX4_hang_7 : decode cX4_hang 7 = .ok (.iload_n 2, 1) := dk_28 (dk_at dksX4_hang_0 7 rfl rfl)
theorem dX4_hang_8 : decode cX4_hang 8 = .ok (.invokevirtual 152, 3) := dk_182 0 152 (dk_at dksX4_hang_0 8 rfl rfl)
theorem dX4_hang_11 : decode cX4_hang 11 = .ok (.invokevirtual 122, 3) := dk_182 0 122 (dk_at dksX4_hang_0 11 rfl rfl)
theorem dX4_hang_14 : decode cX4_hang 14 = .ok (.ireturn, 1) := dk_172 (dk_at dksX4_hang_0 14 rfl rfl)
abbrev cX4_doHang : ByteArray := prog_21_method_31_code
def yX4_doHang : MethodName := ⟨RX4, "doHang", "(II)I"⟩
def dkwX4_doHang_3 : List UInt8 := [16, 43, 5, 27, 104, 96, 4, 96, 28, 79, 42, 28, 182, 0, 98, 172]
abbrev dktX4_doHang_3 : List UInt8 := dkwX4_doHang_3 ++ []
def dkwX4_doHang_2 : List UInt8 := [182, 0, 101, 158, 0, 17, 42, 5, 16, 8, 42, 28, 3, 182, 0, 101, 182, 0, 139, 172, 42, 180, 0, 9]
abbrev dktX4_doHang_2 : List UInt8 := dkwX4_doHang_2 ++ dktX4_doHang_3
def dkwX4_doHang_1 : List UInt8 := [182, 0, 91, 155, 0, 16, 42, 5, 16, 6, 42, 27, 182, 0, 91, 182, 0, 139, 172, 42, 28, 3]
abbrev dktX4_doHang_1 : List UInt8 := dkwX4_doHang_1 ++ dktX4_doHang_2
def dkwX4_doHang_0 : List UInt8 := [42, 27, 182, 0, 149, 153, 0, 11, 42, 28, 182, 0, 129, 154, 0, 9, 42, 4, 182, 0, 119, 172, 42, 27]
abbrev dktX4_doHang_0 : List UInt8 := dkwX4_doHang_0 ++ dktX4_doHang_1
theorem dksX4_doHang_0 : cX4_doHang.data.toList.drop 0 = dktX4_doHang_0 := by decide +kernel
theorem dksX4_doHang_1 : cX4_doHang.data.toList.drop 24 = dktX4_doHang_1 := dk_seg dksX4_doHang_0 24 rfl rfl
theorem dksX4_doHang_2 : cX4_doHang.data.toList.drop 46 = dktX4_doHang_2 := dk_seg dksX4_doHang_1 22 rfl rfl
theorem dksX4_doHang_3 : cX4_doHang.data.toList.drop 70 = dktX4_doHang_3 := dk_seg dksX4_doHang_2 24 rfl rfl
theorem dX4_doHang_0 : decode cX4_doHang 0 = .ok (.aload_n 0, 1) := dk_42 (dk_at dksX4_doHang_0 0 rfl rfl)
theorem dX4_doHang_1 : decode cX4_doHang 1 = .ok (.iload_n 1, 1) := dk_27 (dk_at dksX4_doHang_0 1 rfl rfl)
theorem dX4_doHang_2 : decode cX4_doHang 2 = .ok (.invokevirtual 149, 3) := dk_182 0 149 (dk_at dksX4_doHang_0 2 rfl rfl)
theorem dX4_doHang_5 : decode cX4_doHang 5 = .ok (.ifCond .eq 11, 3) := dk_153 0 11 (dk_at dksX4_doHang_0 5 rfl rfl)
theorem dX4_doHang_8 : decode cX4_doHang 8 = .ok (.aload_n 0, 1) := dk_42 (dk_at dksX4_doHang_0 8 rfl rfl)
theorem dX4_doHang_9 : decode cX4_doHang 9 = .ok (.iload_n 2, 1) := dk_28 (dk_at dksX4_doHang_0 9 rfl rfl)
theorem dX4_doHang_10 : decode cX4_doHang 10 = .ok (.invokevirtual 129, 3) := dk_182 0 129 (dk_at dksX4_doHang_0 10 rfl rfl)
theorem dX4_doHang_13 : decode cX4_doHang 13 = .ok (.ifCond .ne 9, 3) := dk_154 0 9 (dk_at dksX4_doHang_0 13 rfl rfl)
theorem dX4_doHang_16 : decode cX4_doHang 16 = .ok (.aload_n 0, 1) := dk_42 (dk_at dksX4_doHang_0 16 rfl rfl)
theorem dX4_doHang_17 : decode cX4_doHang 17 = .ok (.iconst 1, 1) := dk_4 (dk_at dksX4_doHang_0 17 rfl rfl)
theorem dX4_doHang_18 : decode cX4_doHang 18 = .ok (.invokevirtual 119, 3) := dk_182 0 119 (dk_at dksX4_doHang_0 18 rfl rfl)
theorem dX4_doHang_21 : decode cX4_doHang 21 = .ok (.ireturn, 1) := dk_172 (dk_at dksX4_doHang_0 21 rfl rfl)
theorem dX4_doHang_22 : decode cX4_doHang 22 = .ok (.aload_n 0, 1) := dk_42 (dk_at dksX4_doHang_0 22 rfl rfl)
theorem dX4_doHang_23 : decode cX4_doHang 23 = .ok (.iload_n 1, 1) := dk_27 (dk_at dksX4_doHang_0 23 rfl rfl)
theorem dX4_doHang_24 : decode cX4_doHang 24 = .ok (.invokevirtual 91, 3) := dk_182 0 91 (dk_at dksX4_doHang_1 0 rfl rfl)
theorem dX4_doHang_27 : decode cX4_doHang 27 = .ok (.ifCond .lt 16, 3) := dk_155 0 16 (dk_at dksX4_doHang_1 3 rfl rfl)
theorem dX4_doHang_30 : decode cX4_doHang 30 = .ok (.aload_n 0, 1) := dk_42 (dk_at dksX4_doHang_1 6 rfl rfl)
theorem dX4_doHang_31 : decode cX4_doHang 31 = .ok (.iconst 2, 1) := dk_5 (dk_at dksX4_doHang_1 7 rfl rfl)
theorem dX4_doHang_32 : decode cX4_doHang 32 = .ok (.bipush 6, 2) := dk_16 6 (dk_at dksX4_doHang_1 8 rfl rfl)
theorem dX4_doHang_34 : decode cX4_doHang 34 = .ok (.aload_n 0, 1) := dk_42 (dk_at dksX4_doHang_1 10 rfl rfl)
theorem dX4_doHang_35 : decode cX4_doHang 35 = .ok (.iload_n 1, 1) := dk_27 (dk_at dksX4_doHang_1 11 rfl rfl)
theorem dX4_doHang_36 : decode cX4_doHang 36 = .ok (.invokevirtual 91, 3) := dk_182 0 91 (dk_at dksX4_doHang_1 12 rfl rfl)
theorem dX4_doHang_39 : decode cX4_doHang 39 = .ok (.invokevirtual 139, 3) := dk_182 0 139 (dk_at dksX4_doHang_1 15 rfl rfl)
theorem dX4_doHang_42 : decode cX4_doHang 42 = .ok (.ireturn, 1) := dk_172 (dk_at dksX4_doHang_1 18 rfl rfl)
theorem dX4_doHang_43 : decode cX4_doHang 43 = .ok (.aload_n 0, 1) := dk_42 (dk_at dksX4_doHang_1 19 rfl rfl)
theorem dX4_doHang_44 : decode cX4_doHang 44 = .ok (.iload_n 2, 1) := dk_28 (dk_at dksX4_doHang_1 20 rfl rfl)
theorem dX4_doHang_45 : decode cX4_doHang 45 = .ok (.iconst 0, 1) := dk_3 (dk_at dksX4_doHang_1 21 rfl rfl)
theorem dX4_doHang_46 : decode cX4_doHang 46 = .ok (.invokevirtual 101, 3) := dk_182 0 101 (dk_at dksX4_doHang_2 0 rfl rfl)
theorem dX4_doHang_49 : decode cX4_doHang 49 = .ok (.ifCond .le 17, 3) := dk_158 0 17 (dk_at dksX4_doHang_2 3 rfl rfl)
theorem dX4_doHang_52 : decode cX4_doHang 52 = .ok (.aload_n 0, 1) := dk_42 (dk_at dksX4_doHang_2 6 rfl rfl)
theorem dX4_doHang_53 : decode cX4_doHang 53 = .ok (.iconst 2, 1) := dk_5 (dk_at dksX4_doHang_2 7 rfl rfl)
theorem dX4_doHang_54 : decode cX4_doHang 54 = .ok (.bipush 8, 2) := dk_16 8 (dk_at dksX4_doHang_2 8 rfl rfl)
theorem dX4_doHang_56 : decode cX4_doHang 56 = .ok (.aload_n 0, 1) := dk_42 (dk_at dksX4_doHang_2 10 rfl rfl)
theorem dX4_doHang_57 : decode cX4_doHang 57 = .ok (.iload_n 2, 1) := dk_28 (dk_at dksX4_doHang_2 11 rfl rfl)
theorem dX4_doHang_58 : decode cX4_doHang 58 = .ok (.iconst 0, 1) := dk_3 (dk_at dksX4_doHang_2 12 rfl rfl)
theorem dX4_doHang_59 : decode cX4_doHang 59 = .ok (.invokevirtual 101, 3) := dk_182 0 101 (dk_at dksX4_doHang_2 13 rfl rfl)
theorem dX4_doHang_62 : decode cX4_doHang 62 = .ok (.invokevirtual 139, 3) := dk_182 0 139 (dk_at dksX4_doHang_2 16 rfl rfl)
theorem dX4_doHang_65 : decode cX4_doHang 65 = .ok (.ireturn, 1) := dk_172 (dk_at dksX4_doHang_2 19 rfl rfl)
theorem dX4_doHang_66 : decode cX4_doHang 66 = .ok (.aload_n 0, 1) := dk_42 (dk_at dksX4_doHang_2 20 rfl rfl)
theorem dX4_doHang_67 : decode cX4_doHang 67 = .ok (.getfield 9, 3) := dk_180 0 9 (dk_at dksX4_doHang_2 21 rfl rfl)
theorem dX4_doHang_70 : decode cX4_doHang 70 = .ok (.bipush 43, 2) := dk_16 43 (dk_at dksX4_doHang_3 0 rfl rfl)
theorem dX4_doHang_72 : decode cX4_doHang 72 = .ok (.iconst 2, 1) := dk_5 (dk_at dksX4_doHang_3 2 rfl rfl)
theorem dX4_doHang_73 : decode cX4_doHang 73 = .ok (.iload_n 1, 1) := dk_27 (dk_at dksX4_doHang_3 3 rfl rfl)
theorem dX4_doHang_74 : decode cX4_doHang 74 = .ok (.imul, 1) := dk_104 (dk_at dksX4_doHang_3 4 rfl rfl)
theorem dX4_doHang_75 : decode cX4_doHang 75 = .ok (.iadd, 1) := dk_96 (dk_at dksX4_doHang_3 5 rfl rfl)
theorem dX4_doHang_76 : decode cX4_doHang 76 = .ok (.iconst 1, 1) := dk_4 (dk_at dksX4_doHang_3 6 rfl rfl)
theorem dX4_doHang_77 : decode cX4_doHang 77 = .ok (.iadd, 1) := dk_96 (dk_at dksX4_doHang_3 7 rfl rfl)
theorem dX4_doHang_78 : decode cX4_doHang 78 = .ok (.iload_n 2, 1) := dk_28 (dk_at dksX4_doHang_3 8 rfl rfl)
theorem dX4_doHang_79 : decode cX4_doHang 79 = .ok (.iastore, 1) := dk_79 (dk_at dksX4_doHang_3 9 rfl rfl)
theorem dX4_doHang_80 : decode cX4_doHang 80 = .ok (.aload_n 0, 1) := dk_42 (dk_at dksX4_doHang_3 10 rfl rfl)
theorem dX4_doHang_81 : decode cX4_doHang 81 = .ok (.iload_n 2, 1) := dk_28 (dk_at dksX4_doHang_3 11 rfl rfl)
theorem dX4_doHang_82 : decode cX4_doHang 82 = .ok (.invokevirtual 98, 3) := dk_182 0 98 (dk_at dksX4_doHang_3 12 rfl rfl)
theorem dX4_doHang_85 : decode cX4_doHang 85 = .ok (.ireturn, 1) := dk_172 (dk_at dksX4_doHang_3 15 rfl rfl)
abbrev cX4_drop : ByteArray := prog_21_method_34_code
def yX4_drop : MethodName := ⟨RX4, "drop", "(I)I"⟩
def dkwX4_drop_0 : List UInt8 := [42, 182, 0, 116, 42, 42, 27, 182, 0, 155, 182, 0, 122, 172]
abbrev dktX4_drop_0 : List UInt8 := dkwX4_drop_0 ++ []
theorem dksX4_drop_0 : cX4_drop.data.toList.drop 0 = dktX4_drop_0 := by decide +kernel
theorem dX4_drop_0 : decode cX4_drop 0 = .ok (.aload_n 0, 1) := dk_42 (dk_at dksX4_drop_0 0 rfl rfl)
theorem dX4_drop_1 : decode cX4_drop 1 = .ok (.invokevirtual 116, 3) := dk_182 0 116 (dk_at dksX4_drop_0 1 rfl rfl)
theorem dX4_drop_4 : decode cX4_drop 4 = .ok (.aload_n 0, 1) := dk_42 (dk_at dksX4_drop_0 4 rfl rfl)
theorem dX4_drop_5 : decode cX4_drop 5 = .ok (.aload_n 0, 1) := dk_42 (dk_at dksX4_drop_0 5 rfl rfl)
theorem dX4_drop_6 : decode cX4_drop 6 = .ok (.iload_n 1, 1) := dk_27 (dk_at dksX4_drop_0 6 rfl rfl)
theorem dX4_drop_7 : decode cX4_drop 7 = .ok (.invokevirtual 155, 3) := dk_182 0 155 (dk_at dksX4_drop_0 7 rfl rfl)
theorem dX4_drop_10 : decode cX4_drop 10 = .ok (.invokevirtual 122, 3) := dk_182 0 122 (dk_at dksX4_drop_0 10 rfl rfl)
theorem dX4_drop_13 : decode cX4_drop 13 = .ok (.ireturn, 1) := dk_172 (dk_at dksX4_drop_0 13 rfl rfl)
abbrev cX4_doDrop : ByteArray := prog_21_method_33_code
def yX4_doDrop : MethodName := ⟨RX4, "doDrop", "(I)I"⟩
def dkwX4_doDrop_2 : List UInt8 := [3, 182, 0, 101, 182, 0, 139, 172, 42, 180, 0, 9, 16, 43, 5, 27, 104, 96, 4, 96, 2, 79, 28, 172]
abbrev dktX4_doDrop_2 : List UInt8 := dkwX4_doDrop_2 ++ []
def dkwX4_doDrop_1 : List UInt8 := [42, 5, 16, 7, 27, 182, 0, 139, 172, 42, 28, 3, 182, 0, 101, 158, 0, 17, 42, 5, 16, 8, 42, 28]
abbrev dktX4_doDrop_1 : List UInt8 := dkwX4_doDrop_1 ++ dktX4_doDrop_2
def dkwX4_doDrop_0 : List UInt8 := [42, 27, 182, 0, 149, 154, 0, 9, 42, 4, 182, 0, 119, 172, 42, 27, 182, 0, 91, 61, 28, 156, 0, 12]
abbrev dktX4_doDrop_0 : List UInt8 := dkwX4_doDrop_0 ++ dktX4_doDrop_1
theorem dksX4_doDrop_0 : cX4_doDrop.data.toList.drop 0 = dktX4_doDrop_0 := by decide +kernel
theorem dksX4_doDrop_1 : cX4_doDrop.data.toList.drop 24 = dktX4_doDrop_1 := dk_seg dksX4_doDrop_0 24 rfl rfl
theorem dksX4_doDrop_2 : cX4_doDrop.data.toList.drop 48 = dktX4_doDrop_2 := dk_seg dksX4_doDrop_1 24 rfl rfl
theorem dX4_doDrop_0 : decode cX4_doDrop 0 = .ok (.aload_n 0, 1) := dk_42 (dk_at dksX4_doDrop_0 0 rfl rfl)
theorem dX4_doDrop_1 : decode cX4_doDrop 1 = .ok (.iload_n 1, 1) := dk_27 (dk_at dksX4_doDrop_0 1 rfl rfl)
theorem dX4_doDrop_2 : decode cX4_doDrop 2 = .ok (.invokevirtual 149, 3) := dk_182 0 149 (dk_at dksX4_doDrop_0 2 rfl rfl)
theorem dX4_doDrop_5 : decode cX4_doDrop 5 = .ok (.ifCond .ne 9, 3) := dk_154 0 9 (dk_at dksX4_doDrop_0 5 rfl rfl)
theorem dX4_doDrop_8 : decode cX4_doDrop 8 = .ok (.aload_n 0, 1) := dk_42 (dk_at dksX4_doDrop_0 8 rfl rfl)
theorem dX4_doDrop_9 : decode cX4_doDrop 9 = .ok (.iconst 1, 1) := dk_4 (dk_at dksX4_doDrop_0 9 rfl rfl)
theorem dX4_doDrop_10 : decode cX4_doDrop 10 = .ok (.invokevirtual 119, 3) := dk_182 0 119 (dk_at dksX4_doDrop_0 10 rfl rfl)
theorem dX4_doDrop_13 : decode cX4_doDrop 13 = .ok (.ireturn, 1) := dk_172 (dk_at dksX4_doDrop_0 13 rfl rfl)
theorem dX4_doDrop_14 : decode cX4_doDrop 14 = .ok (.aload_n 0, 1) := dk_42 (dk_at dksX4_doDrop_0 14 rfl rfl)
theorem dX4_doDrop_15 : decode cX4_doDrop 15 = .ok (.iload_n 1, 1) := dk_27 (dk_at dksX4_doDrop_0 15 rfl rfl)
theorem dX4_doDrop_16 : decode cX4_doDrop 16 = .ok (.invokevirtual 91, 3) := dk_182 0 91 (dk_at dksX4_doDrop_0 16 rfl rfl)
theorem dX4_doDrop_19 : decode cX4_doDrop 19 = .ok (.istore_n 2, 1) := dk_61 (dk_at dksX4_doDrop_0 19 rfl rfl)
theorem dX4_doDrop_20 : decode cX4_doDrop 20 = .ok (.iload_n 2, 1) := dk_28 (dk_at dksX4_doDrop_0 20 rfl rfl)
theorem dX4_doDrop_21 : decode cX4_doDrop 21 = .ok (.ifCond .ge 12, 3) := dk_156 0 12 (dk_at dksX4_doDrop_0 21 rfl rfl)
theorem dX4_doDrop_24 : decode cX4_doDrop 24 = .ok (.aload_n 0, 1) := dk_42 (dk_at dksX4_doDrop_1 0 rfl rfl)
theorem dX4_doDrop_25 : decode cX4_doDrop 25 = .ok (.iconst 2, 1) := dk_5 (dk_at dksX4_doDrop_1 1 rfl rfl)
theorem dX4_doDrop_26 : decode cX4_doDrop 26 = .ok (.bipush 7, 2) := dk_16 7 (dk_at dksX4_doDrop_1 2 rfl rfl)
theorem dX4_doDrop_28 : decode cX4_doDrop 28 = .ok (.iload_n 1, 1) := dk_27 (dk_at dksX4_doDrop_1 4 rfl rfl)
theorem dX4_doDrop_29 : decode cX4_doDrop 29 = .ok (.invokevirtual 139, 3) := dk_182 0 139 (dk_at dksX4_doDrop_1 5 rfl rfl)
theorem dX4_doDrop_32 : decode cX4_doDrop 32 = .ok (.ireturn, 1) := dk_172 (dk_at dksX4_doDrop_1 8 rfl rfl)
theorem dX4_doDrop_33 : decode cX4_doDrop 33 = .ok (.aload_n 0, 1) := dk_42 (dk_at dksX4_doDrop_1 9 rfl rfl)
theorem dX4_doDrop_34 : decode cX4_doDrop 34 = .ok (.iload_n 2, 1) := dk_28 (dk_at dksX4_doDrop_1 10 rfl rfl)
theorem dX4_doDrop_35 : decode cX4_doDrop 35 = .ok (.iconst 0, 1) := dk_3 (dk_at dksX4_doDrop_1 11 rfl rfl)
theorem dX4_doDrop_36 : decode cX4_doDrop 36 = .ok (.invokevirtual 101, 3) := dk_182 0 101 (dk_at dksX4_doDrop_1 12 rfl rfl)
theorem dX4_doDrop_39 : decode cX4_doDrop 39 = .ok (.ifCond .le 17, 3) := dk_158 0 17 (dk_at dksX4_doDrop_1 15 rfl rfl)
theorem dX4_doDrop_42 : decode cX4_doDrop 42 = .ok (.aload_n 0, 1) := dk_42 (dk_at dksX4_doDrop_1 18 rfl rfl)
theorem dX4_doDrop_43 : decode cX4_doDrop 43 = .ok (.iconst 2, 1) := dk_5 (dk_at dksX4_doDrop_1 19 rfl rfl)
theorem dX4_doDrop_44 : decode cX4_doDrop 44 = .ok (.bipush 8, 2) := dk_16 8 (dk_at dksX4_doDrop_1 20 rfl rfl)
theorem dX4_doDrop_46 : decode cX4_doDrop 46 = .ok (.aload_n 0, 1) := dk_42 (dk_at dksX4_doDrop_1 22 rfl rfl)
theorem dX4_doDrop_47 : decode cX4_doDrop 47 = .ok (.iload_n 2, 1) := dk_28 (dk_at dksX4_doDrop_1 23 rfl rfl)
theorem dX4_doDrop_48 : decode cX4_doDrop 48 = .ok (.iconst 0, 1) := dk_3 (dk_at dksX4_doDrop_2 0 rfl rfl)
theorem dX4_doDrop_49 : decode cX4_doDrop 49 = .ok (.invokevirtual 101, 3) := dk_182 0 101 (dk_at dksX4_doDrop_2 1 rfl rfl)
theorem dX4_doDrop_52 : decode cX4_doDrop 52 = .ok (.invokevirtual 139, 3) := dk_182 0 139 (dk_at dksX4_doDrop_2 4 rfl rfl)
theorem dX4_doDrop_55 : decode cX4_doDrop 55 = .ok (.ireturn, 1) := dk_172 (dk_at dksX4_doDrop_2 7 rfl rfl)
theorem dX4_doDrop_56 : decode cX4_doDrop 56 = .ok (.aload_n 0, 1) := dk_42 (dk_at dksX4_doDrop_2 8 rfl rfl)
theorem dX4_doDrop_57 : decode cX4_doDrop 57 = .ok (.getfield 9, 3) := dk_180 0 9 (dk_at dksX4_doDrop_2 9 rfl rfl)
theorem dX4_doDrop_60 : decode cX4_doDrop 60 = .ok (.bipush 43, 2) := dk_16 43 (dk_at dksX4_doDrop_2 12 rfl rfl)
theorem dX4_doDrop_62 : decode cX4_doDrop 62 = .ok (.iconst 2, 1) := dk_5 (dk_at dksX4_doDrop_2 14 rfl rfl)
theorem dX4_doDrop_63 : decode cX4_doDrop 63 = .ok (.iload_n 1, 1) := dk_27 (dk_at dksX4_doDrop_2 15 rfl rfl)
theorem dX4_doDrop_64 : decode cX4_doDrop 64 = .ok (.imul, 1) := dk_104 (dk_at dksX4_doDrop_2 16 rfl rfl)
theorem dX4_doDrop_65 : decode cX4_doDrop 65 = .ok (.iadd, 1) := dk_96 (dk_at dksX4_doDrop_2 17 rfl rfl)
theorem dX4_doDrop_66 : decode cX4_doDrop 66 = .ok (.iconst 1, 1) := dk_4 (dk_at dksX4_doDrop_2 18 rfl rfl)
theorem dX4_doDrop_67 : decode cX4_doDrop 67 = .ok (.iadd, 1) := dk_96 (dk_at dksX4_doDrop_2 19 rfl rfl)
theorem dX4_doDrop_68 : decode cX4_doDrop 68 = .ok (.iconst (-1), 1) := dk_2 (dk_at dksX4_doDrop_2 20 rfl rfl)
theorem dX4_doDrop_69 : decode cX4_doDrop 69 = .ok (.iastore, 1) := dk_79 (dk_at dksX4_doDrop_2 21 rfl rfl)
theorem dX4_doDrop_70 : decode cX4_doDrop 70 = .ok (.iload_n 2, 1) := dk_28 (dk_at dksX4_doDrop_2 22 rfl rfl)
theorem dX4_doDrop_71 : decode cX4_doDrop 71 = .ok (.ireturn, 1) := dk_172 (dk_at dksX4_doDrop_2 23 rfl rfl)
abbrev cX4_weights : ByteArray := prog_21_method_37_code
def yX4_weights : MethodName := ⟨RX4, "weights", "(II)I"⟩
def dkwX4_weights_0 : List UInt8 := [42, 182, 0, 116, 42, 42, 27, 28, 182, 0, 162, 182, 0, 122, 172]
abbrev dktX4_weights_0 : List UInt8 := dkwX4_weights_0 ++ []
theorem dksX4_weights_0 : cX4_weights.data.toList.drop 0 = dktX4_weights_0 := by decide +kernel
theorem dX4_weights_0 : decode cX4_weights 0 = .ok (.aload_n 0, 1) := dk_42 (dk_at dksX4_weights_0 0 rfl rfl)
theorem dX4_weights_1 : decode cX4_weights 1 = .ok (.invokevirtual 116, 3) := dk_182 0 116 (dk_at dksX4_weights_0 1 rfl rfl)
theorem dX4_weights_4 : decode cX4_weights 4 = .ok (.aload_n 0, 1) := dk_42 (dk_at dksX4_weights_0 4 rfl rfl)
theorem dX4_weights_5 : decode cX4_weights 5 = .ok (.aload_n 0, 1) := dk_42 (dk_at dksX4_weights_0 5 rfl rfl)
theorem dX4_weights_6 : decode cX4_weights 6 = .ok (.iload_n 1, 1) := dk_27 (dk_at dksX4_weights_0 6 rfl rfl)
theorem dX4_weights_7 : decode cX4_weights 7 = .ok (.iload_n 2, 1) := dk_28 (dk_at dksX4_weights_0 7 rfl rfl)
theorem dX4_weights_8 : decode cX4_weights 8 = .ok (.invokevirtual 162, 3) := dk_182 0 162 (dk_at dksX4_weights_0 8 rfl rfl)
theorem dX4_weights_11 : decode cX4_weights 11 = .ok (.invokevirtual 122, 3) := dk_182 0 122 (dk_at dksX4_weights_0 11 rfl rfl)
theorem dX4_weights_14 : decode cX4_weights 14 = .ok (.ireturn, 1) := dk_172 (dk_at dksX4_weights_0 14 rfl rfl)
abbrev cX4_doWeights : ByteArray := prog_21_method_36_code
def yX4_doWeights : MethodName := ⟨RX4, "doWeights", "(II)I"⟩
def dkwX4_doWeights_5 : List UInt8 := [96, 182, 0, 125, 29, 28, 96, 172]
abbrev dktX4_doWeights_5 : List UInt8 := dkwX4_doWeights_5 ++ []
def dkwX4_doWeights_4 : List UInt8 := [182, 0, 139, 172, 21, 4, 28, 162, 0, 12, 42, 6, 4, 21, 4, 182, 0, 139, 172, 42, 27, 4, 29, 28]
abbrev dktX4_doWeights_4 : List UInt8 := dkwX4_doWeights_4 ++ dktX4_doWeights_5
def dkwX4_doWeights_3 : List UInt8 := [182, 0, 101, 182, 0, 139, 172, 29, 28, 96, 3, 16, 20, 184, 0, 87, 154, 0, 12, 42, 6, 16, 9, 29]
abbrev dktX4_doWeights_3 : List UInt8 := dkwX4_doWeights_3 ++ dktX4_doWeights_4
def dkwX4_doWeights_2 : List UInt8 := [182, 0, 158, 100, 54, 4, 42, 27, 3, 182, 0, 101, 158, 0, 17, 42, 6, 16, 8, 42, 27, 3]
abbrev dktX4_doWeights_2 : List UInt8 := dkwX4_doWeights_2 ++ dktX4_doWeights_3
def dkwX4_doWeights_1 : List UInt8 := [184, 0, 87, 154, 0, 9, 42, 5, 182, 0, 119, 172, 42, 27, 4, 182, 0, 101, 62, 16, 60, 42]
abbrev dktX4_doWeights_1 : List UInt8 := dkwX4_doWeights_1 ++ dktX4_doWeights_2
def dkwX4_doWeights_0 : List UInt8 := [42, 27, 182, 0, 129, 154, 0, 9, 42, 4, 182, 0, 119, 172, 28, 153, 0, 14, 28, 16, 236, 16, 20]
abbrev dktX4_doWeights_0 : List UInt8 := dkwX4_doWeights_0 ++ dktX4_doWeights_1
theorem dksX4_doWeights_0 : cX4_doWeights.data.toList.drop 0 = dktX4_doWeights_0 := by decide +kernel
theorem dksX4_doWeights_1 : cX4_doWeights.data.toList.drop 23 = dktX4_doWeights_1 := dk_seg dksX4_doWeights_0 23 rfl rfl
theorem dksX4_doWeights_2 : cX4_doWeights.data.toList.drop 45 = dktX4_doWeights_2 := dk_seg dksX4_doWeights_1 22 rfl rfl
theorem dksX4_doWeights_3 : cX4_doWeights.data.toList.drop 67 = dktX4_doWeights_3 := dk_seg dksX4_doWeights_2 22 rfl rfl
theorem dksX4_doWeights_4 : cX4_doWeights.data.toList.drop 91 = dktX4_doWeights_4 := dk_seg dksX4_doWeights_3 24 rfl rfl
theorem dksX4_doWeights_5 : cX4_doWeights.data.toList.drop 115 = dktX4_doWeights_5 := dk_seg dksX4_doWeights_4 24 rfl rfl
theorem dX4_doWeights_0 : decode cX4_doWeights 0 = .ok (.aload_n 0, 1) := dk_42 (dk_at dksX4_doWeights_0 0 rfl rfl)
theorem dX4_doWeights_1 : decode cX4_doWeights 1 = .ok (.iload_n 1, 1) := dk_27 (dk_at dksX4_doWeights_0 1 rfl rfl)
theorem dX4_doWeights_2 : decode cX4_doWeights 2 = .ok (.invokevirtual 129, 3) := dk_182 0 129 (dk_at dksX4_doWeights_0 2 rfl rfl)
theorem dX4_doWeights_5 : decode cX4_doWeights 5 = .ok (.ifCond .ne 9, 3) := dk_154 0 9 (dk_at dksX4_doWeights_0 5 rfl rfl)
theorem dX4_doWeights_8 : decode cX4_doWeights 8 = .ok (.aload_n 0, 1) := dk_42 (dk_at dksX4_doWeights_0 8 rfl rfl)
theorem dX4_doWeights_9 : decode cX4_doWeights 9 = .ok (.iconst 1, 1) := dk_4 (dk_at dksX4_doWeights_0 9 rfl rfl)
theorem dX4_doWeights_10 : decode cX4_doWeights 10 = .ok (.invokevirtual 119, 3) := dk_182 0 119 (dk_at dksX4_doWeights_0 10 rfl rfl)
theorem dX4_doWeights_13 : decode cX4_doWeights 13 = .ok (.ireturn, 1) := dk_172 (dk_at dksX4_doWeights_0 13 rfl rfl)
theorem dX4_doWeights_14 : decode cX4_doWeights 14 = .ok (.iload_n 2, 1) := dk_28 (dk_at dksX4_doWeights_0 14 rfl rfl)
theorem dX4_doWeights_15 : decode cX4_doWeights 15 = .ok (.ifCond .eq 14, 3) := dk_153 0 14 (dk_at dksX4_doWeights_0 15 rfl rfl)
theorem dX4_doWeights_18 : decode cX4_doWeights 18 = .ok (.iload_n 2, 1) := dk_28 (dk_at dksX4_doWeights_0 18 rfl rfl)
theorem dX4_doWeights_19 : decode cX4_doWeights 19 = .ok (.bipush (-20), 2) := dk_16 236 (dk_at dksX4_doWeights_0 19 rfl rfl)
theorem dX4_doWeights_21 : decode cX4_doWeights 21 = .ok (.bipush 20, 2) := dk_16 20 (dk_at dksX4_doWeights_0 21 rfl rfl)
theorem dX4_doWeights_23 : decode cX4_doWeights 23 = .ok (.invokestatic 87, 3) := dk_184 0 87 (dk_at dksX4_doWeights_1 0 rfl rfl)
theorem dX4_doWeights_26 : decode cX4_doWeights 26 = .ok (.ifCond .ne 9, 3) := dk_154 0 9 (dk_at dksX4_doWeights_1 3 rfl rfl)
theorem dX4_doWeights_29 : decode cX4_doWeights 29 = .ok (.aload_n 0, 1) := dk_42 (dk_at dksX4_doWeights_1 6 rfl rfl)
theorem dX4_doWeights_30 : decode cX4_doWeights 30 = .ok (.iconst 2, 1) := dk_5 (dk_at dksX4_doWeights_1 7 rfl rfl)
theorem dX4_doWeights_31 : decode cX4_doWeights 31 = .ok (.invokevirtual 119, 3) := dk_182 0 119 (dk_at dksX4_doWeights_1 8 rfl rfl)
theorem dX4_doWeights_34 : decode cX4_doWeights 34 = .ok (.ireturn, 1) := dk_172 (dk_at dksX4_doWeights_1 11 rfl rfl)
theorem dX4_doWeights_35 : decode cX4_doWeights 35 = .ok (.aload_n 0, 1) := dk_42 (dk_at dksX4_doWeights_1 12 rfl rfl)
theorem dX4_doWeights_36 : decode cX4_doWeights 36 = .ok (.iload_n 1, 1) := dk_27 (dk_at dksX4_doWeights_1 13 rfl rfl)
theorem dX4_doWeights_37 : decode cX4_doWeights 37 = .ok (.iconst 1, 1) := dk_4 (dk_at dksX4_doWeights_1 14 rfl rfl)
theorem dX4_doWeights_38 : decode cX4_doWeights 38 = .ok (.invokevirtual 101, 3) := dk_182 0 101 (dk_at dksX4_doWeights_1 15 rfl rfl)
theorem dX4_doWeights_41 : decode cX4_doWeights 41 = .ok (.istore_n 3, 1) := dk_62 (dk_at dksX4_doWeights_1 18 rfl rfl)
theorem dX4_doWeights_42 : decode cX4_doWeights 42 = .ok (.bipush 60, 2) := dk_16 60 (dk_at dksX4_doWeights_1 19 rfl rfl)
theorem dX4_doWeights_44 : decode cX4_doWeights 44 = .ok (.aload_n 0, 1) := dk_42 (dk_at dksX4_doWeights_1 21 rfl rfl)
theorem dX4_doWeights_45 : decode cX4_doWeights 45 = .ok (.invokevirtual 158, 3) := dk_182 0 158 (dk_at dksX4_doWeights_2 0 rfl rfl)
theorem dX4_doWeights_48 : decode cX4_doWeights 48 = .ok (.isub, 1) := dk_100 (dk_at dksX4_doWeights_2 3 rfl rfl)
theorem dX4_doWeights_49 : decode cX4_doWeights 49 = .ok (.istore 4, 2) := dk_54 4 (dk_at dksX4_doWeights_2 4 rfl rfl)
theorem dX4_doWeights_51 : decode cX4_doWeights 51 = .ok (.aload_n 0, 1) := dk_42 (dk_at dksX4_doWeights_2 6 rfl rfl)
theorem dX4_doWeights_52 : decode cX4_doWeights 52 = .ok (.iload_n 1, 1) := dk_27 (dk_at dksX4_doWeights_2 7 rfl rfl)
theorem dX4_doWeights_53 : decode cX4_doWeights 53 = .ok (.iconst 0, 1) := dk_3 (dk_at dksX4_doWeights_2 8 rfl rfl)
theorem dX4_doWeights_54 : decode cX4_doWeights 54 = .ok (.invokevirtual 101, 3) := dk_182 0 101 (dk_at dksX4_doWeights_2 9 rfl rfl)
theorem dX4_doWeights_57 : decode cX4_doWeights 57 = .ok (.ifCond .le 17, 3) := dk_158 0 17 (dk_at dksX4_doWeights_2 12 rfl rfl)
theorem dX4_doWeights_60 : decode cX4_doWeights 60 = .ok (.aload_n 0, 1) := dk_42 (dk_at dksX4_doWeights_2 15 rfl rfl)
theorem dX4_doWeights_61 : decode cX4_doWeights 61 = .ok (.iconst 3, 1) := dk_6 (dk_at dksX4_doWeights_2 16 rfl rfl)
theorem dX4_doWeights_62 : decode cX4_doWeights 62 = .ok (.bipush 8, 2) := dk_16 8 (dk_at dksX4_doWeights_2 17 rfl rfl)
theorem dX4_doWeights_64 : decode cX4_doWeights 64 = .ok (.aload_n 0, 1) := dk_42 (dk_at dksX4_doWeights_2 19 rfl rfl)
theorem dX4_doWeights_65 : decode cX4_doWeights 65 = .ok (.iload_n 1, 1) := dk_27 (dk_at dksX4_doWeights_2 20 rfl rfl)
theorem dX4_doWeights_66 : decode cX4_doWeights 66 = .ok (.iconst 0, 1) := dk_3 (dk_at dksX4_doWeights_2 21 rfl rfl)
theorem dX4_doWeights_67 : decode cX4_doWeights 67 = .ok (.invokevirtual 101, 3) := dk_182 0 101 (dk_at dksX4_doWeights_3 0 rfl rfl)
theorem dX4_doWeights_70 : decode cX4_doWeights 70 = .ok (.invokevirtual 139, 3) := dk_182 0 139 (dk_at dksX4_doWeights_3 3 rfl rfl)
theorem dX4_doWeights_73 : decode cX4_doWeights 73 = .ok (.ireturn, 1) := dk_172 (dk_at dksX4_doWeights_3 6 rfl rfl)
theorem dX4_doWeights_74 : decode cX4_doWeights 74 = .ok (.iload_n 3, 1) := dk_29 (dk_at dksX4_doWeights_3 7 rfl rfl)
theorem dX4_doWeights_75 : decode cX4_doWeights 75 = .ok (.iload_n 2, 1) := dk_28 (dk_at dksX4_doWeights_3 8 rfl rfl)
theorem dX4_doWeights_76 : decode cX4_doWeights 76 = .ok (.iadd, 1) := dk_96 (dk_at dksX4_doWeights_3 9 rfl rfl)
theorem dX4_doWeights_77 : decode cX4_doWeights 77 = .ok (.iconst 0, 1) := dk_3 (dk_at dksX4_doWeights_3 10 rfl rfl)
theorem dX4_doWeights_78 : decode cX4_doWeights 78 = .ok (.bipush 20, 2) := dk_16 20 (dk_at dksX4_doWeights_3 11 rfl rfl)
theorem dX4_doWeights_80 : decode cX4_doWeights 80 = .ok (.invokestatic 87, 3) := dk_184 0 87 (dk_at dksX4_doWeights_3 13 rfl rfl)
theorem dX4_doWeights_83 : decode cX4_doWeights 83 = .ok (.ifCond .ne 12, 3) := dk_154 0 12 (dk_at dksX4_doWeights_3 16 rfl rfl)
theorem dX4_doWeights_86 : decode cX4_doWeights 86 = .ok (.aload_n 0, 1) := dk_42 (dk_at dksX4_doWeights_3 19 rfl rfl)
theorem dX4_doWeights_87 : decode cX4_doWeights 87 = .ok (.iconst 3, 1) := dk_6 (dk_at dksX4_doWeights_3 20 rfl rfl)
theorem dX4_doWeights_88 : decode cX4_doWeights 88 = .ok (.bipush 9, 2) := dk_16 9 (dk_at dksX4_doWeights_3 21 rfl rfl)
theorem dX4_doWeights_90 : decode cX4_doWeights 90 = .ok (.iload_n 3, 1) := dk_29 (dk_at dksX4_doWeights_3 23 rfl rfl)
theorem dX4_doWeights_91 : decode cX4_doWeights 91 = .ok (.invokevirtual 139, 3) := dk_182 0 139 (dk_at dksX4_doWeights_4 0 rfl rfl)
theorem dX4_doWeights_94 : decode cX4_doWeights 94 = .ok (.ireturn, 1) := dk_172 (dk_at dksX4_doWeights_4 3 rfl rfl)
theorem dX4_doWeights_95 : decode cX4_doWeights 95 = .ok (.iload 4, 2) := dk_21 4 (dk_at dksX4_doWeights_4 4 rfl rfl)
theorem dX4_doWeights_97 : decode cX4_doWeights 97 = .ok (.iload_n 2, 1) := dk_28 (dk_at dksX4_doWeights_4 6 rfl rfl)
theorem dX4_doWeights_98 : decode cX4_doWeights 98 = .ok (.if_icmp .ge 12, 3) := dk_162 0 12 (dk_at dksX4_doWeights_4 7 rfl rfl)
theorem dX4_doWeights_101 : decode cX4_doWeights 101 = .ok (.aload_n 0, 1) := dk_42 (dk_at dksX4_doWeights_4 10 rfl rfl)
theorem dX4_doWeights_102 : decode cX4_doWeights 102 = .ok (.iconst 3, 1) := dk_6 (dk_at dksX4_doWeights_4 11 rfl rfl)
theorem dX4_doWeights_103 : decode cX4_doWeights 103 = .ok (.iconst 1, 1) := dk_4 (dk_at dksX4_doWeights_4 12 rfl rfl)
theorem dX4_doWeights_104 : decode cX4_doWeights 104 = .ok (.iload 4, 2) := dk_21 4 (dk_at dksX4_doWeights_4 13 rfl rfl)
theorem dX4_doWeights_106 : decode cX4_doWeights 106 = .ok (.invokevirtual 139, 3) := dk_182 0 139 (dk_at dksX4_doWeights_4 15 rfl rfl)
theorem dX4_doWeights_109 : decode cX4_doWeights 109 = .ok (.ireturn, 1) := dk_172 (dk_at dksX4_doWeights_4 18 rfl rfl)
theorem dX4_doWeights_110 : decode cX4_doWeights 110 = .ok (.aload_n 0, 1) := dk_42 (dk_at dksX4_doWeights_4 19 rfl rfl)
theorem dX4_doWeights_111 : decode cX4_doWeights 111 = .ok (.iload_n 1, 1) := dk_27 (dk_at dksX4_doWeights_4 20 rfl rfl)
theorem dX4_doWeights_112 : decode cX4_doWeights 112 = .ok (.iconst 1, 1) := dk_4 (dk_at dksX4_doWeights_4 21 rfl rfl)
theorem dX4_doWeights_113 : decode cX4_doWeights 113 = .ok (.iload_n 3, 1) := dk_29 (dk_at dksX4_doWeights_4 22 rfl rfl)
theorem dX4_doWeights_114 : decode cX4_doWeights 114 = .ok (.iload_n 2, 1) := dk_28 (dk_at dksX4_doWeights_4 23 rfl rfl)
theorem dX4_doWeights_115 : decode cX4_doWeights 115 = .ok (.iadd, 1) := dk_96 (dk_at dksX4_doWeights_5 0 rfl rfl)
theorem dX4_doWeights_116 : decode cX4_doWeights 116 = .ok (.invokevirtual 125, 3) := dk_182 0 125 (dk_at dksX4_doWeights_5 1 rfl rfl)
theorem dX4_doWeights_119 : decode cX4_doWeights 119 = .ok (.iload_n 3, 1) := dk_29 (dk_at dksX4_doWeights_5 4 rfl rfl)
theorem dX4_doWeights_120 : decode cX4_doWeights 120 = .ok (.iload_n 2, 1) := dk_28 (dk_at dksX4_doWeights_5 5 rfl rfl)
theorem dX4_doWeights_121 : decode cX4_doWeights 121 = .ok (.iadd, 1) := dk_96 (dk_at dksX4_doWeights_5 6 rfl rfl)
theorem dX4_doWeights_122 : decode cX4_doWeights 122 = .ok (.ireturn, 1) := dk_172 (dk_at dksX4_doWeights_5 7 rfl rfl)
abbrev cX4_onBars : ByteArray := prog_21_method_35_code
def yX4_onBars : MethodName := ⟨RX4, "onBars", "()I"⟩
def dkwX4_onBars_1 : List UInt8 := [132, 2, 1, 167, 255, 234, 27, 172]
abbrev dktX4_onBars_1 : List UInt8 := dkwX4_onBars_1 ++ []
def dkwX4_onBars_0 : List UInt8 := [3, 60, 3, 61, 28, 42, 180, 0, 9, 4, 46, 162, 0, 18, 27, 42, 28, 4, 182, 0, 101, 96, 60]
abbrev dktX4_onBars_0 : List UInt8 := dkwX4_onBars_0 ++ dktX4_onBars_1
theorem dksX4_onBars_0 : cX4_onBars.data.toList.drop 0 = dktX4_onBars_0 := by decide +kernel
theorem dksX4_onBars_1 : cX4_onBars.data.toList.drop 23 = dktX4_onBars_1 := dk_seg dksX4_onBars_0 23 rfl rfl
theorem dX4_onBars_0 : decode cX4_onBars 0 = .ok (.iconst 0, 1) := dk_3 (dk_at dksX4_onBars_0 0 rfl rfl)
theorem dX4_onBars_1 : decode cX4_onBars 1 = .ok (.istore_n 1, 1) := dk_60 (dk_at dksX4_onBars_0 1 rfl rfl)
theorem dX4_onBars_2 : decode cX4_onBars 2 = .ok (.iconst 0, 1) := dk_3 (dk_at dksX4_onBars_0 2 rfl rfl)
theorem dX4_onBars_3 : decode cX4_onBars 3 = .ok (.istore_n 2, 1) := dk_61 (dk_at dksX4_onBars_0 3 rfl rfl)
theorem dX4_onBars_4 : decode cX4_onBars 4 = .ok (.iload_n 2, 1) := dk_28 (dk_at dksX4_onBars_0 4 rfl rfl)
theorem dX4_onBars_5 : decode cX4_onBars 5 = .ok (.aload_n 0, 1) := dk_42 (dk_at dksX4_onBars_0 5 rfl rfl)
theorem dX4_onBars_6 : decode cX4_onBars 6 = .ok (.getfield 9, 3) := dk_180 0 9 (dk_at dksX4_onBars_0 6 rfl rfl)
theorem dX4_onBars_9 : decode cX4_onBars 9 = .ok (.iconst 1, 1) := dk_4 (dk_at dksX4_onBars_0 9 rfl rfl)
theorem dX4_onBars_10 : decode cX4_onBars 10 = .ok (.iaload, 1) := dk_46 (dk_at dksX4_onBars_0 10 rfl rfl)
theorem dX4_onBars_11 : decode cX4_onBars 11 = .ok (.if_icmp .ge 18, 3) := dk_162 0 18 (dk_at dksX4_onBars_0 11 rfl rfl)
theorem dX4_onBars_14 : decode cX4_onBars 14 = .ok (.iload_n 1, 1) := dk_27 (dk_at dksX4_onBars_0 14 rfl rfl)
theorem dX4_onBars_15 : decode cX4_onBars 15 = .ok (.aload_n 0, 1) := dk_42 (dk_at dksX4_onBars_0 15 rfl rfl)
theorem dX4_onBars_16 : decode cX4_onBars 16 = .ok (.iload_n 2, 1) := dk_28 (dk_at dksX4_onBars_0 16 rfl rfl)
theorem dX4_onBars_17 : decode cX4_onBars 17 = .ok (.iconst 1, 1) := dk_4 (dk_at dksX4_onBars_0 17 rfl rfl)
theorem dX4_onBars_18 : decode cX4_onBars 18 = .ok (.invokevirtual 101, 3) := dk_182 0 101 (dk_at dksX4_onBars_0 18 rfl rfl)
theorem dX4_onBars_21 : decode cX4_onBars 21 = .ok (.iadd, 1) := dk_96 (dk_at dksX4_onBars_0 21 rfl rfl)
theorem dX4_onBars_22 : decode cX4_onBars 22 = .ok (.istore_n 1, 1) := dk_60 (dk_at dksX4_onBars_0 22 rfl rfl)
theorem dX4_onBars_23 : decode cX4_onBars 23 = .ok (.iinc 2 1, 3) := dk_132 2 1 (dk_at dksX4_onBars_1 0 rfl rfl)
theorem dX4_onBars_26 : decode cX4_onBars 26 = .ok (.goto (-22), 3) := dk_167 255 234 (dk_at dksX4_onBars_1 3 rfl rfl)
theorem dX4_onBars_29 : decode cX4_onBars 29 = .ok (.iload_n 1, 1) := dk_27 (dk_at dksX4_onBars_1 6 rfl rfl)
theorem dX4_onBars_30 : decode cX4_onBars 30 = .ok (.ireturn, 1) := dk_172 (dk_at dksX4_onBars_1 7 rfl rfl)
abbrev cX4_bestWeights : ByteArray := prog_21_method_38_code
def yX4_bestWeights : MethodName := ⟨RX4, "bestWeights", "(I)I"⟩
def dkwX4_bestWeights_3 : List UInt8 := [167, 255, 205, 28, 172]
abbrev dktX4_bestWeights_3 : List UInt8 := dkwX4_bestWeights_3 ++ []
def dkwX4_bestWeights_2 : List UInt8 := [27, 182, 0, 98, 16, 10, 28, 104, 100, 184, 0, 105, 162, 0, 7, 29, 167, 0, 4, 28, 61, 132, 3, 1]
abbrev dktX4_bestWeights_2 : List UInt8 := dkwX4_bestWeights_2 ++ dktX4_bestWeights_3
def dkwX4_bestWeights_1 : List UInt8 := [163, 0, 51, 42, 180, 0, 69, 154, 0, 44, 42, 27, 182, 0, 98, 16, 10, 29, 104, 100, 184, 0, 105, 42]
abbrev dktX4_bestWeights_1 : List UInt8 := dkwX4_bestWeights_1 ++ dktX4_bestWeights_2
def dkwX4_bestWeights_0 : List UInt8 := [42, 42, 27, 182, 0, 129, 153, 0, 7, 3, 167, 0, 4, 4, 181, 0, 69, 3, 61, 4, 62, 29, 16, 20]
abbrev dktX4_bestWeights_0 : List UInt8 := dkwX4_bestWeights_0 ++ dktX4_bestWeights_1
theorem dksX4_bestWeights_0 : cX4_bestWeights.data.toList.drop 0 = dktX4_bestWeights_0 := by decide +kernel
theorem dksX4_bestWeights_1 : cX4_bestWeights.data.toList.drop 24 = dktX4_bestWeights_1 := dk_seg dksX4_bestWeights_0 24 rfl rfl
theorem dksX4_bestWeights_2 : cX4_bestWeights.data.toList.drop 48 = dktX4_bestWeights_2 := dk_seg dksX4_bestWeights_1 24 rfl rfl
theorem dksX4_bestWeights_3 : cX4_bestWeights.data.toList.drop 72 = dktX4_bestWeights_3 := dk_seg dksX4_bestWeights_2 24 rfl rfl
theorem dX4_bestWeights_0 : decode cX4_bestWeights 0 = .ok (.aload_n 0, 1) := dk_42 (dk_at dksX4_bestWeights_0 0 rfl rfl)
theorem dX4_bestWeights_1 : decode cX4_bestWeights 1 = .ok (.aload_n 0, 1) := dk_42 (dk_at dksX4_bestWeights_0 1 rfl rfl)
theorem dX4_bestWeights_2 : decode cX4_bestWeights 2 = .ok (.iload_n 1, 1) := dk_27 (dk_at dksX4_bestWeights_0 2 rfl rfl)
theorem dX4_bestWeights_3 : decode cX4_bestWeights 3 = .ok (.invokevirtual 129, 3) := dk_182 0 129 (dk_at dksX4_bestWeights_0 3 rfl rfl)
theorem dX4_bestWeights_6 : decode cX4_bestWeights 6 = .ok (.ifCond .eq 7, 3) := dk_153 0 7 (dk_at dksX4_bestWeights_0 6 rfl rfl)
theorem dX4_bestWeights_9 : decode cX4_bestWeights 9 = .ok (.iconst 0, 1) := dk_3 (dk_at dksX4_bestWeights_0 9 rfl rfl)
theorem dX4_bestWeights_10 : decode cX4_bestWeights 10 = .ok (.goto 4, 3) := dk_167 0 4 (dk_at dksX4_bestWeights_0 10 rfl rfl)
theorem dX4_bestWeights_13 : decode cX4_bestWeights 13 = .ok (.iconst 1, 1) := dk_4 (dk_at dksX4_bestWeights_0 13 rfl rfl)
theorem dX4_bestWeights_14 : decode cX4_bestWeights 14 = .ok (.putfield 69, 3) := dk_181 0 69 (dk_at dksX4_bestWeights_0 14 rfl rfl)
theorem dX4_bestWeights_17 : decode cX4_bestWeights 17 = .ok (.iconst 0, 1) := dk_3 (dk_at dksX4_bestWeights_0 17 rfl rfl)
theorem dX4_bestWeights_18 : decode cX4_bestWeights 18 = .ok (.istore_n 2, 1) := dk_61 (dk_at dksX4_bestWeights_0 18 rfl rfl)
theorem dX4_bestWeights_19 : decode cX4_bestWeights 19 = .ok (.iconst 1, 1) := dk_4 (dk_at dksX4_bestWeights_0 19 rfl rfl)
theorem dX4_bestWeights_20 : decode cX4_bestWeights 20 = .ok (.istore_n 3, 1) := dk_62 (dk_at dksX4_bestWeights_0 20 rfl rfl)
theorem dX4_bestWeights_21 : decode cX4_bestWeights 21 = .ok (.iload_n 3, 1) := dk_29 (dk_at dksX4_bestWeights_0 21 rfl rfl)
theorem dX4_bestWeights_22 : decode cX4_bestWeights 22 = .ok (.bipush 20, 2) := dk_16 20 (dk_at dksX4_bestWeights_0 22 rfl rfl)
theorem dX4_bestWeights_24 : decode cX4_bestWeights 24 = .ok (.if_icmp .gt 51, 3) := dk_163 0 51 (dk_at dksX4_bestWeights_1 0 rfl rfl)
theorem dX4_bestWeights_27 : decode cX4_bestWeights 27 = .ok (.aload_n 0, 1) := dk_42 (dk_at dksX4_bestWeights_1 3 rfl rfl)
theorem dX4_bestWeights_28 : decode cX4_bestWeights 28 = .ok (.getfield 69, 3) := dk_180 0 69 (dk_at dksX4_bestWeights_1 4 rfl rfl)
theorem dX4_bestWeights_31 : decode cX4_bestWeights 31 = .ok (.ifCond .ne 44, 3) := dk_154 0 44 (dk_at dksX4_bestWeights_1 7 rfl rfl)
theorem dX4_bestWeights_34 : decode cX4_bestWeights 34 = .ok (.aload_n 0, 1) := dk_42 (dk_at dksX4_bestWeights_1 10 rfl rfl)
theorem dX4_bestWeights_35 : decode cX4_bestWeights 35 = .ok (.iload_n 1, 1) := dk_27 (dk_at dksX4_bestWeights_1 11 rfl rfl)
theorem dX4_bestWeights_36 : decode cX4_bestWeights 36 = .ok (.invokevirtual 98, 3) := dk_182 0 98 (dk_at dksX4_bestWeights_1 12 rfl rfl)
theorem dX4_bestWeights_39 : decode cX4_bestWeights 39 = .ok (.bipush 10, 2) := dk_16 10 (dk_at dksX4_bestWeights_1 15 rfl rfl)
theorem dX4_bestWeights_41 : decode cX4_bestWeights 41 = .ok (.iload_n 3, 1) := dk_29 (dk_at dksX4_bestWeights_1 17 rfl rfl)
theorem dX4_bestWeights_42 : decode cX4_bestWeights 42 = .ok (.imul, 1) := dk_104 (dk_at dksX4_bestWeights_1 18 rfl rfl)
theorem dX4_bestWeights_43 : decode cX4_bestWeights 43 = .ok (.isub, 1) := dk_100 (dk_at dksX4_bestWeights_1 19 rfl rfl)
theorem dX4_bestWeights_44 : decode cX4_bestWeights 44 = .ok (.invokestatic 105, 3) := dk_184 0 105 (dk_at dksX4_bestWeights_1 20 rfl rfl)
theorem dX4_bestWeights_47 : decode cX4_bestWeights 47 = .ok (.aload_n 0, 1) := dk_42 (dk_at dksX4_bestWeights_1 23 rfl rfl)
theorem dX4_bestWeights_48 : decode cX4_bestWeights 48 = .ok (.iload_n 1, 1) := dk_27 (dk_at dksX4_bestWeights_2 0 rfl rfl)
theorem dX4_bestWeights_49 : decode cX4_bestWeights 49 = .ok (.invokevirtual 98, 3) := dk_182 0 98 (dk_at dksX4_bestWeights_2 1 rfl rfl)
theorem dX4_bestWeights_52 : decode cX4_bestWeights 52 = .ok (.bipush 10, 2) := dk_16 10 (dk_at dksX4_bestWeights_2 4 rfl rfl)
theorem dX4_bestWeights_54 : decode cX4_bestWeights 54 = .ok (.iload_n 2, 1) := dk_28 (dk_at dksX4_bestWeights_2 6 rfl rfl)
theorem dX4_bestWeights_55 : decode cX4_bestWeights 55 = .ok (.imul, 1) := dk_104 (dk_at dksX4_bestWeights_2 7 rfl rfl)
theorem dX4_bestWeights_56 : decode cX4_bestWeights 56 = .ok (.isub, 1) := dk_100 (dk_at dksX4_bestWeights_2 8 rfl rfl)
theorem dX4_bestWeights_57 : decode cX4_bestWeights 57 = .ok (.invokestatic 105, 3) := dk_184 0 105 (dk_at dksX4_bestWeights_2 9 rfl rfl)
theorem dX4_bestWeights_60 : decode cX4_bestWeights 60 = .ok (.if_icmp .ge 7, 3) := dk_162 0 7 (dk_at dksX4_bestWeights_2 12 rfl rfl)
theorem dX4_bestWeights_63 : decode cX4_bestWeights 63 = .ok (.iload_n 3, 1) := dk_29 (dk_at dksX4_bestWeights_2 15 rfl rfl)
theorem dX4_bestWeights_64 : decode cX4_bestWeights 64 = .ok (.goto 4, 3) := dk_167 0 4 (dk_at dksX4_bestWeights_2 16 rfl rfl)
theorem dX4_bestWeights_67 : decode cX4_bestWeights 67 = .ok (.iload_n 2, 1) := dk_28 (dk_at dksX4_bestWeights_2 19 rfl rfl)
theorem dX4_bestWeights_68 : decode cX4_bestWeights 68 = .ok (.istore_n 2, 1) := dk_61 (dk_at dksX4_bestWeights_2 20 rfl rfl)
theorem dX4_bestWeights_69 : decode cX4_bestWeights 69 = .ok (.iinc 3 1, 3) := dk_132 3 1 (dk_at dksX4_bestWeights_2 21 rfl rfl)
theorem dX4_bestWeights_72 : decode cX4_bestWeights 72 = .ok (.goto (-51), 3) := dk_167 255 205 (dk_at dksX4_bestWeights_3 0 rfl rfl)
theorem dX4_bestWeights_75 : decode cX4_bestWeights 75 = .ok (.iload_n 2, 1) := dk_28 (dk_at dksX4_bestWeights_3 3 rfl rfl)
theorem dX4_bestWeights_76 : decode cX4_bestWeights 76 = .ok (.ireturn, 1) := dk_172 (dk_at dksX4_bestWeights_3 4 rfl rfl)
abbrev cX4_bestBar : ByteArray := prog_21_method_40_code
def yX4_bestBar : MethodName := ⟨RX4, "bestBar", "(I)I"⟩
def dkwX4_bestBar_5 : List UInt8 := [156, 0, 7, 5, 167, 0, 4, 3, 181, 0, 69, 42, 180, 0, 69, 158, 0, 7, 3, 167, 0, 4, 28, 172]
abbrev dktX4_bestBar_5 : List UInt8 := dkwX4_bestBar_5 ++ []
def dkwX4_bestBar_4 : List UInt8 := [154, 0, 12, 21, 4, 158, 0, 7, 29, 167, 0, 4, 28, 61, 132, 3, 1, 167, 255, 175, 42, 28]
abbrev dktX4_bestBar_4 : List UInt8 := dkwX4_bestBar_4 ++ dktX4_bestBar_5
def dkwX4_bestBar_3 : List UInt8 := [167, 0, 16, 42, 28, 5, 182, 0, 101, 42, 29, 5, 182, 0, 101, 100, 54, 4, 42, 29, 3, 182, 0, 101]
abbrev dktX4_bestBar_3 : List UInt8 := dkwX4_bestBar_3 ++ dktX4_bestBar_4
def dkwX4_bestBar_2 : List UInt8 := [42, 28, 27, 182, 0, 165, 42, 29, 27, 182, 0, 165, 100, 54, 4, 21, 4, 153, 0, 8, 21, 4]
abbrev dktX4_bestBar_2 : List UInt8 := dkwX4_bestBar_2 ++ dktX4_bestBar_3
def dkwX4_bestBar_1 : List UInt8 := [3, 172, 2, 61, 3, 62, 29, 42, 180, 0, 9, 4, 46, 162, 0, 77, 28, 156, 0, 7, 4, 167, 0, 16]
abbrev dktX4_bestBar_1 : List UInt8 := dkwX4_bestBar_1 ++ dktX4_bestBar_2
def dkwX4_bestBar_0 : List UInt8 := [42, 42, 27, 182, 0, 149, 153, 0, 7, 3, 167, 0, 4, 4, 181, 0, 69, 42, 180, 0, 69, 158, 0, 5]
abbrev dktX4_bestBar_0 : List UInt8 := dkwX4_bestBar_0 ++ dktX4_bestBar_1
theorem dksX4_bestBar_0 : cX4_bestBar.data.toList.drop 0 = dktX4_bestBar_0 := by decide +kernel
theorem dksX4_bestBar_1 : cX4_bestBar.data.toList.drop 24 = dktX4_bestBar_1 := dk_seg dksX4_bestBar_0 24 rfl rfl
theorem dksX4_bestBar_2 : cX4_bestBar.data.toList.drop 48 = dktX4_bestBar_2 := dk_seg dksX4_bestBar_1 24 rfl rfl
theorem dksX4_bestBar_3 : cX4_bestBar.data.toList.drop 70 = dktX4_bestBar_3 := dk_seg dksX4_bestBar_2 22 rfl rfl
theorem dksX4_bestBar_4 : cX4_bestBar.data.toList.drop 94 = dktX4_bestBar_4 := dk_seg dksX4_bestBar_3 24 rfl rfl
theorem dksX4_bestBar_5 : cX4_bestBar.data.toList.drop 116 = dktX4_bestBar_5 := dk_seg dksX4_bestBar_4 22 rfl rfl
theorem dX4_bestBar_0 : decode cX4_bestBar 0 = .ok (.aload_n 0, 1) := dk_42 (dk_at dksX4_bestBar_0 0 rfl rfl)
theorem dX4_bestBar_1 : decode cX4_bestBar 1 = .ok (.aload_n 0, 1) := dk_42 (dk_at dksX4_bestBar_0 1 rfl rfl)
theorem dX4_bestBar_2 : decode cX4_bestBar 2 = .ok (.iload_n 1, 1) := dk_27 (dk_at dksX4_bestBar_0 2 rfl rfl)
theorem dX4_bestBar_3 : decode cX4_bestBar 3 = .ok (.invokevirtual 149, 3) := dk_182 0 149 (dk_at dksX4_bestBar_0 3 rfl rfl)
theorem dX4_bestBar_6 : decode cX4_bestBar 6 = .ok (.ifCond .eq 7, 3) := dk_153 0 7 (dk_at dksX4_bestBar_0 6 rfl rfl)
theorem dX4_bestBar_9 : decode cX4_bestBar 9 = .ok (.iconst 0, 1) := dk_3 (dk_at dksX4_bestBar_0 9 rfl rfl)
theorem dX4_bestBar_10 : decode cX4_bestBar 10 = .ok (.goto 4, 3) := dk_167 0 4 (dk_at dksX4_bestBar_0 10 rfl rfl)
theorem dX4_bestBar_13 : decode cX4_bestBar 13 = .ok (.iconst 1, 1) := dk_4 (dk_at dksX4_bestBar_0 13 rfl rfl)
theorem dX4_bestBar_14 : decode cX4_bestBar 14 = .ok (.putfield 69, 3) := dk_181 0 69 (dk_at dksX4_bestBar_0 14 rfl rfl)
theorem dX4_bestBar_17 : decode cX4_bestBar 17 = .ok (.aload_n 0, 1) := dk_42 (dk_at dksX4_bestBar_0 17 rfl rfl)
theorem dX4_bestBar_18 : decode cX4_bestBar 18 = .ok (.getfield 69, 3) := dk_180 0 69 (dk_at dksX4_bestBar_0 18 rfl rfl)
theorem dX4_bestBar_21 : decode cX4_bestBar 21 = .ok (.ifCond .le 5, 3) := dk_158 0 5 (dk_at dksX4_bestBar_0 21 rfl rfl)
theorem dX4_bestBar_24 : decode cX4_bestBar 24 = .ok (.iconst 0, 1) := dk_3 (dk_at dksX4_bestBar_1 0 rfl rfl)
theorem dX4_bestBar_25 : decode cX4_bestBar 25 = .ok (.ireturn, 1) := dk_172 (dk_at dksX4_bestBar_1 1 rfl rfl)
theorem dX4_bestBar_26 : decode cX4_bestBar 26 = .ok (.iconst (-1), 1) := dk_2 (dk_at dksX4_bestBar_1 2 rfl rfl)
theorem dX4_bestBar_27 : decode cX4_bestBar 27 = .ok (.istore_n 2, 1) := dk_61 (dk_at dksX4_bestBar_1 3 rfl rfl)
theorem dX4_bestBar_28 : decode cX4_bestBar 28 = .ok (.iconst 0, 1) := dk_3 (dk_at dksX4_bestBar_1 4 rfl rfl)
theorem dX4_bestBar_29 : decode cX4_bestBar 29 = .ok (.istore_n 3, 1) := dk_62 (dk_at dksX4_bestBar_1 5 rfl rfl)
theorem dX4_bestBar_30 : decode cX4_bestBar 30 = .ok (.iload_n 3, 1) := dk_29 (dk_at dksX4_bestBar_1 6 rfl rfl)
theorem dX4_bestBar_31 : decode cX4_bestBar 31 = .ok (.aload_n 0, 1) := dk_42 (dk_at dksX4_bestBar_1 7 rfl rfl)
theorem dX4_bestBar_32 : decode cX4_bestBar 32 = .ok (.getfield 9, 3) := dk_180 0 9 (dk_at dksX4_bestBar_1 8 rfl rfl)
theorem dX4_bestBar_35 : decode cX4_bestBar 35 = .ok (.iconst 1, 1) := dk_4 (dk_at dksX4_bestBar_1 11 rfl rfl)
theorem dX4_bestBar_36 : decode cX4_bestBar 36 = .ok (.iaload, 1) := dk_46 (dk_at dksX4_bestBar_1 12 rfl rfl)
theorem dX4_bestBar_37 : decode cX4_bestBar 37 = .ok (.if_icmp .ge 77, 3) := dk_162 0 77 (dk_at dksX4_bestBar_1 13 rfl rfl)
theorem dX4_bestBar_40 : decode cX4_bestBar 40 = .ok (.iload_n 2, 1) := dk_28 (dk_at dksX4_bestBar_1 16 rfl rfl)
theorem dX4_bestBar_41 : decode cX4_bestBar 41 = .ok (.ifCond .ge 7, 3) := dk_156 0 7 (dk_at dksX4_bestBar_1 17 rfl rfl)
theorem dX4_bestBar_44 : decode cX4_bestBar 44 = .ok (.iconst 1, 1) := dk_4 (dk_at dksX4_bestBar_1 20 rfl rfl)
theorem dX4_bestBar_45 : decode cX4_bestBar 45 = .ok (.goto 16, 3) := dk_167 0 16 (dk_at dksX4_bestBar_1 21 rfl rfl)
theorem dX4_bestBar_48 : decode cX4_bestBar 48 = .ok (.aload_n 0, 1) := dk_42 (dk_at dksX4_bestBar_2 0 rfl rfl)
theorem dX4_bestBar_49 : decode cX4_bestBar 49 = .ok (.iload_n 2, 1) := dk_28 (dk_at dksX4_bestBar_2 1 rfl rfl)
theorem dX4_bestBar_50 : decode cX4_bestBar 50 = .ok (.iload_n 1, 1) := dk_27 (dk_at dksX4_bestBar_2 2 rfl rfl)
theorem dX4_bestBar_51 : decode cX4_bestBar 51 = .ok (.invokevirtual 165, 3) := dk_182 0 165 (dk_at dksX4_bestBar_2 3 rfl rfl)
theorem dX4_bestBar_54 : decode cX4_bestBar 54 = .ok (.aload_n 0, 1) := dk_42 (dk_at dksX4_bestBar_2 6 rfl rfl)
theorem dX4_bestBar_55 : decode cX4_bestBar 55 = .ok (.iload_n 3, 1) := dk_29 (dk_at dksX4_bestBar_2 7 rfl rfl)
theorem dX4_bestBar_56 : decode cX4_bestBar 56 = .ok (.iload_n 1, 1) := dk_27 (dk_at dksX4_bestBar_2 8 rfl rfl)
theorem dX4_bestBar_57 : decode cX4_bestBar 57 = .ok (.invokevirtual 165, 3) := dk_182 0 165 (dk_at dksX4_bestBar_2 9 rfl rfl)
theorem dX4_bestBar_60 : decode cX4_bestBar 60 = .ok (.isub, 1) := dk_100 (dk_at dksX4_bestBar_2 12 rfl rfl)
theorem dX4_bestBar_61 : decode cX4_bestBar 61 = .ok (.istore 4, 2) := dk_54 4 (dk_at dksX4_bestBar_2 13 rfl rfl)
theorem dX4_bestBar_63 : decode cX4_bestBar 63 = .ok (.iload 4, 2) := dk_21 4 (dk_at dksX4_bestBar_2 15 rfl rfl)
theorem dX4_bestBar_65 : decode cX4_bestBar 65 = .ok (.ifCond .eq 8, 3) := dk_153 0 8 (dk_at dksX4_bestBar_2 17 rfl rfl)
theorem dX4_bestBar_68 : decode cX4_bestBar 68 = .ok (.iload 4, 2) := dk_21 4 (dk_at dksX4_bestBar_2 20 rfl rfl)
theorem dX4_bestBar_70 : decode cX4_bestBar 70 = .ok (.goto 16, 3) := dk_167 0 16 (dk_at dksX4_bestBar_3 0 rfl rfl)
theorem dX4_bestBar_73 : decode cX4_bestBar 73 = .ok (.aload_n 0, 1) := dk_42 (dk_at dksX4_bestBar_3 3 rfl rfl)
theorem dX4_bestBar_74 : decode cX4_bestBar 74 = .ok (.iload_n 2, 1) := dk_28 (dk_at dksX4_bestBar_3 4 rfl rfl)
theorem dX4_bestBar_75 : decode cX4_bestBar 75 = .ok (.iconst 2, 1) := dk_5 (dk_at dksX4_bestBar_3 5 rfl rfl)
theorem dX4_bestBar_76 : decode cX4_bestBar 76 = .ok (.invokevirtual 101, 3) := dk_182 0 101 (dk_at dksX4_bestBar_3 6 rfl rfl)
theorem dX4_bestBar_79 : decode cX4_bestBar 79 = .ok (.aload_n 0, 1) := dk_42 (dk_at dksX4_bestBar_3 9 rfl rfl)
theorem dX4_bestBar_80 : decode cX4_bestBar 80 = .ok (.iload_n 3, 1) := dk_29 (dk_at dksX4_bestBar_3 10 rfl rfl)
theorem dX4_bestBar_81 : decode cX4_bestBar 81 = .ok (.iconst 2, 1) := dk_5 (dk_at dksX4_bestBar_3 11 rfl rfl)
theorem dX4_bestBar_82 : decode cX4_bestBar 82 = .ok (.invokevirtual 101, 3) := dk_182 0 101 (dk_at dksX4_bestBar_3 12 rfl rfl)
theorem dX4_bestBar_85 : decode cX4_bestBar 85 = .ok (.isub, 1) := dk_100 (dk_at dksX4_bestBar_3 15 rfl rfl)
theorem dX4_bestBar_86 : decode cX4_bestBar 86 = .ok (.istore 4, 2) := dk_54 4 (dk_at dksX4_bestBar_3 16 rfl rfl)
theorem dX4_bestBar_88 : decode cX4_bestBar 88 = .ok (.aload_n 0, 1) := dk_42 (dk_at dksX4_bestBar_3 18 rfl rfl)
theorem dX4_bestBar_89 : decode cX4_bestBar 89 = .ok (.iload_n 3, 1) := dk_29 (dk_at dksX4_bestBar_3 19 rfl rfl)
theorem dX4_bestBar_90 : decode cX4_bestBar 90 = .ok (.iconst 0, 1) := dk_3 (dk_at dksX4_bestBar_3 20 rfl rfl)
theorem dX4_bestBar_91 : decode cX4_bestBar 91 = .ok (.invokevirtual 101, 3) := dk_182 0 101 (dk_at dksX4_bestBar_3 21 rfl rfl)
theorem dX4_bestBar_94 : decode cX4_bestBar 94 = .ok (.ifCond .ne 12, 3) := dk_154 0 12 (dk_at dksX4_bestBar_4 0 rfl rfl)
theorem dX4_bestBar_97 : decode cX4_bestBar 97 = .ok (.iload 4, 2) := dk_21 4 (dk_at dksX4_bestBar_4 3 rfl rfl)
theorem dX4_bestBar_99 : decode cX4_bestBar 99 = .ok (.ifCond .le 7, 3) := dk_158 0 7 (dk_at dksX4_bestBar_4 5 rfl rfl)
theorem dX4_bestBar_102 : decode cX4_bestBar 102 = .ok (.iload_n 3, 1) := dk_29 (dk_at dksX4_bestBar_4 8 rfl rfl)
theorem dX4_bestBar_103 : decode cX4_bestBar 103 = .ok (.goto 4, 3) := dk_167 0 4 (dk_at dksX4_bestBar_4 9 rfl rfl)
theorem dX4_bestBar_106 : decode cX4_bestBar 106 = .ok (.iload_n 2, 1) := dk_28 (dk_at dksX4_bestBar_4 12 rfl rfl)
theorem dX4_bestBar_107 : decode cX4_bestBar 107 = .ok (.istore_n 2, 1) := dk_61 (dk_at dksX4_bestBar_4 13 rfl rfl)
theorem dX4_bestBar_108 : decode cX4_bestBar 108 = .ok (.iinc 3 1, 3) := dk_132 3 1 (dk_at dksX4_bestBar_4 14 rfl rfl)
theorem dX4_bestBar_111 : decode cX4_bestBar 111 = .ok (.goto (-81), 3) := dk_167 255 175 (dk_at dksX4_bestBar_4 17 rfl rfl)
theorem dX4_bestBar_114 : decode cX4_bestBar 114 = .ok (.aload_n 0, 1) := dk_42 (dk_at dksX4_bestBar_4 20 rfl rfl)
theorem dX4_bestBar_115 : decode cX4_bestBar 115 = .ok (.iload_n 2, 1) := dk_28 (dk_at dksX4_bestBar_4 21 rfl rfl)
theorem dX4_bestBar_116 : decode cX4_bestBar 116 = .ok (.ifCond .ge 7, 3) := dk_156 0 7 (dk_at dksX4_bestBar_5 0 rfl rfl)
theorem dX4_bestBar_119 : decode cX4_bestBar 119 = .ok (.iconst 2, 1) := dk_5 (dk_at dksX4_bestBar_5 3 rfl rfl)
theorem dX4_bestBar_120 : decode cX4_bestBar 120 = .ok (.goto 4, 3) := dk_167 0 4 (dk_at dksX4_bestBar_5 4 rfl rfl)
theorem dX4_bestBar_123 : decode cX4_bestBar 123 = .ok (.iconst 0, 1) := dk_3 (dk_at dksX4_bestBar_5 7 rfl rfl)
theorem dX4_bestBar_124 : decode cX4_bestBar 124 = .ok (.putfield 69, 3) := dk_181 0 69 (dk_at dksX4_bestBar_5 8 rfl rfl)
theorem dX4_bestBar_127 : decode cX4_bestBar 127 = .ok (.aload_n 0, 1) := dk_42 (dk_at dksX4_bestBar_5 11 rfl rfl)
theorem dX4_bestBar_128 : decode cX4_bestBar 128 = .ok (.getfield 69, 3) := dk_180 0 69 (dk_at dksX4_bestBar_5 12 rfl rfl)
theorem dX4_bestBar_131 : decode cX4_bestBar 131 = .ok (.ifCond .le 7, 3) := dk_158 0 7 (dk_at dksX4_bestBar_5 15 rfl rfl)
theorem dX4_bestBar_134 : decode cX4_bestBar 134 = .ok (.iconst 0, 1) := dk_3 (dk_at dksX4_bestBar_5 18 rfl rfl)
theorem dX4_bestBar_135 : decode cX4_bestBar 135 = .ok (.goto 4, 3) := dk_167 0 4 (dk_at dksX4_bestBar_5 19 rfl rfl)
theorem dX4_bestBar_138 : decode cX4_bestBar 138 = .ok (.iload_n 2, 1) := dk_28 (dk_at dksX4_bestBar_5 22 rfl rfl)
theorem dX4_bestBar_139 : decode cX4_bestBar 139 = .ok (.ireturn, 1) := dk_172 (dk_at dksX4_bestBar_5 23 rfl rfl)
abbrev cX4_offWith : ByteArray := prog_21_method_39_code
def yX4_offWith : MethodName := ⟨RX4, "offWith", "(II)I"⟩
def dkwX4_offWith_1 : List UInt8 := [29, 96, 16, 10, 42, 27, 4, 182, 0, 101, 104, 100, 184, 0, 105, 172]
abbrev dktX4_offWith_1 : List UInt8 := dkwX4_offWith_1 ++ []
def dkwX4_offWith_0 : List UInt8 := [42, 28, 182, 0, 91, 27, 160, 0, 7, 3, 167, 0, 8, 42, 28, 182, 0, 95, 62, 42, 27, 182, 0, 98]
abbrev dktX4_offWith_0 : List UInt8 := dkwX4_offWith_0 ++ dktX4_offWith_1
theorem dksX4_offWith_0 : cX4_offWith.data.toList.drop 0 = dktX4_offWith_0 := by decide +kernel
theorem dksX4_offWith_1 : cX4_offWith.data.toList.drop 24 = dktX4_offWith_1 := dk_seg dksX4_offWith_0 24 rfl rfl
theorem dX4_offWith_0 : decode cX4_offWith 0 = .ok (.aload_n 0, 1) := dk_42 (dk_at dksX4_offWith_0 0 rfl rfl)
theorem dX4_offWith_1 : decode cX4_offWith 1 = .ok (.iload_n 2, 1) := dk_28 (dk_at dksX4_offWith_0 1 rfl rfl)
theorem dX4_offWith_2 : decode cX4_offWith 2 = .ok (.invokevirtual 91, 3) := dk_182 0 91 (dk_at dksX4_offWith_0 2 rfl rfl)
theorem dX4_offWith_5 : decode cX4_offWith 5 = .ok (.iload_n 1, 1) := dk_27 (dk_at dksX4_offWith_0 5 rfl rfl)
theorem dX4_offWith_6 : decode cX4_offWith 6 = .ok (.if_icmp .ne 7, 3) := dk_160 0 7 (dk_at dksX4_offWith_0 6 rfl rfl)
theorem dX4_offWith_9 : decode cX4_offWith 9 = .ok (.iconst 0, 1) := dk_3 (dk_at dksX4_offWith_0 9 rfl rfl)
theorem dX4_offWith_10 : decode cX4_offWith 10 = .ok (.goto 8, 3) := dk_167 0 8 (dk_at dksX4_offWith_0 10 rfl rfl)
theorem dX4_offWith_13 : decode cX4_offWith 13 = .ok (.aload_n 0, 1) := dk_42 (dk_at dksX4_offWith_0 13 rfl rfl)
theorem dX4_offWith_14 : decode cX4_offWith 14 = .ok (.iload_n 2, 1) := dk_28 (dk_at dksX4_offWith_0 14 rfl rfl)
theorem dX4_offWith_15 : decode cX4_offWith 15 = .ok (.invokevirtual 95, 3) := dk_182 0 95 (dk_at dksX4_offWith_0 15 rfl rfl)
theorem dX4_offWith_18 : decode cX4_offWith 18 = .ok (.istore_n 3, 1) := dk_62 (dk_at dksX4_offWith_0 18 rfl rfl)
theorem dX4_offWith_19 : decode cX4_offWith 19 = .ok (.aload_n 0, 1) := dk_42 (dk_at dksX4_offWith_0 19 rfl rfl)
theorem dX4_offWith_20 : decode cX4_offWith 20 = .ok (.iload_n 1, 1) := dk_27 (dk_at dksX4_offWith_0 20 rfl rfl)
theorem dX4_offWith_21 : decode cX4_offWith 21 = .ok (.invokevirtual 98, 3) := dk_182 0 98 (dk_at dksX4_offWith_0 21 rfl rfl)
theorem dX4_offWith_24 : decode cX4_offWith 24 = .ok (.iload_n 3, 1) := dk_29 (dk_at dksX4_offWith_1 0 rfl rfl)
theorem dX4_offWith_25 : decode cX4_offWith 25 = .ok (.iadd, 1) := dk_96 (dk_at dksX4_offWith_1 1 rfl rfl)
theorem dX4_offWith_26 : decode cX4_offWith 26 = .ok (.bipush 10, 2) := dk_16 10 (dk_at dksX4_offWith_1 2 rfl rfl)
theorem dX4_offWith_28 : decode cX4_offWith 28 = .ok (.aload_n 0, 1) := dk_42 (dk_at dksX4_offWith_1 4 rfl rfl)
theorem dX4_offWith_29 : decode cX4_offWith 29 = .ok (.iload_n 1, 1) := dk_27 (dk_at dksX4_offWith_1 5 rfl rfl)
theorem dX4_offWith_30 : decode cX4_offWith 30 = .ok (.iconst 1, 1) := dk_4 (dk_at dksX4_offWith_1 6 rfl rfl)
theorem dX4_offWith_31 : decode cX4_offWith 31 = .ok (.invokevirtual 101, 3) := dk_182 0 101 (dk_at dksX4_offWith_1 7 rfl rfl)
theorem dX4_offWith_34 : decode cX4_offWith 34 = .ok (.imul, 1) := dk_104 (dk_at dksX4_offWith_1 10 rfl rfl)
theorem dX4_offWith_35 : decode cX4_offWith 35 = .ok (.isub, 1) := dk_100 (dk_at dksX4_offWith_1 11 rfl rfl)
theorem dX4_offWith_36 : decode cX4_offWith 36 = .ok (.invokestatic 105, 3) := dk_184 0 105 (dk_at dksX4_offWith_1 12 rfl rfl)
theorem dX4_offWith_39 : decode cX4_offWith 39 = .ok (.ireturn, 1) := dk_172 (dk_at dksX4_offWith_1 15 rfl rfl)
abbrev cX4_bestAgain : ByteArray := prog_21_method_41_code
def yX4_bestAgain : MethodName := ⟨RX4, "bestAgain", "(I)I"⟩
def dkwX4_bestAgain_0 : List UInt8 := [42, 27, 182, 0, 168, 172]
abbrev dktX4_bestAgain_0 : List UInt8 := dkwX4_bestAgain_0 ++ []
theorem dksX4_bestAgain_0 : cX4_bestAgain.data.toList.drop 0 = dktX4_bestAgain_0 := by decide +kernel
theorem dX4_bestAgain_0 : decode cX4_bestAgain 0 = .ok (.aload_n 0, 1) := dk_42 (dk_at dksX4_bestAgain_0 0 rfl rfl)
theorem dX4_bestAgain_1 : decode cX4_bestAgain 1 = .ok (.iload_n 1, 1) := dk_27 (dk_at dksX4_bestAgain_0 1 rfl rfl)
theorem dX4_bestAgain_2 : decode cX4_bestAgain 2 = .ok (.invokevirtual 168, 3) := dk_182 0 168 (dk_at dksX4_bestAgain_0 2 rfl rfl)
theorem dX4_bestAgain_5 : decode cX4_bestAgain 5 = .ok (.ireturn, 1) := dk_172 (dk_at dksX4_bestAgain_0 5 rfl rfl)
abbrev cX4_hand : ByteArray := prog_21_method_42_code
def yX4_hand : MethodName := ⟨RX4, "hand", "(II)I"⟩
def dkwX4_hand_3 : List UInt8 := [28, 79, 42, 180, 0, 9, 6, 92, 46, 4, 96, 79, 42, 29, 182, 0, 122, 172]
abbrev dktX4_hand_3 : List UInt8 := dkwX4_hand_3 ++ []
def dkwX4_hand_2 : List UInt8 := [42, 180, 0, 9, 16, 67, 5, 29, 104, 96, 27, 79, 42, 180, 0, 9, 16, 67, 5, 29, 104, 96, 4, 96]
abbrev dktX4_hand_2 : List UInt8 := dkwX4_hand_2 ++ dktX4_hand_3
def dkwX4_hand_1 : List UInt8 := [184, 0, 87, 154, 0, 9, 42, 4, 182, 0, 119, 172, 29, 16, 6, 160, 0, 9, 42, 5, 182, 0, 119, 172]
abbrev dktX4_hand_1 : List UInt8 := dkwX4_hand_1 ++ dktX4_hand_2
def dkwX4_hand_0 : List UInt8 := [42, 180, 0, 9, 6, 46, 62, 42, 182, 0, 116, 27, 3, 5, 184, 0, 87, 153, 0, 13, 28, 4, 16, 30]
abbrev dktX4_hand_0 : List UInt8 := dkwX4_hand_0 ++ dktX4_hand_1
theorem dksX4_hand_0 : cX4_hand.data.toList.drop 0 = dktX4_hand_0 := by decide +kernel
theorem dksX4_hand_1 : cX4_hand.data.toList.drop 24 = dktX4_hand_1 := dk_seg dksX4_hand_0 24 rfl rfl
theorem dksX4_hand_2 : cX4_hand.data.toList.drop 48 = dktX4_hand_2 := dk_seg dksX4_hand_1 24 rfl rfl
theorem dksX4_hand_3 : cX4_hand.data.toList.drop 72 = dktX4_hand_3 := dk_seg dksX4_hand_2 24 rfl rfl
theorem dX4_hand_0 : decode cX4_hand 0 = .ok (.aload_n 0, 1) := dk_42 (dk_at dksX4_hand_0 0 rfl rfl)
theorem dX4_hand_1 : decode cX4_hand 1 = .ok (.getfield 9, 3) := dk_180 0 9 (dk_at dksX4_hand_0 1 rfl rfl)
theorem dX4_hand_4 : decode cX4_hand 4 = .ok (.iconst 3, 1) := dk_6 (dk_at dksX4_hand_0 4 rfl rfl)
theorem dX4_hand_5 : decode cX4_hand 5 = .ok (.iaload, 1) := dk_46 (dk_at dksX4_hand_0 5 rfl rfl)
theorem dX4_hand_6 : decode cX4_hand 6 = .ok (.istore_n 3, 1) := dk_62 (dk_at dksX4_hand_0 6 rfl rfl)
theorem dX4_hand_7 : decode cX4_hand 7 = .ok (.aload_n 0, 1) := dk_42 (dk_at dksX4_hand_0 7 rfl rfl)
theorem dX4_hand_8 : decode cX4_hand 8 = .ok (.invokevirtual 116, 3) := dk_182 0 116 (dk_at dksX4_hand_0 8 rfl rfl)
theorem dX4_hand_11 : decode cX4_hand 11 = .ok (.iload_n 1, 1) := dk_27 (dk_at dksX4_hand_0 11 rfl rfl)
theorem dX4_hand_12 : decode cX4_hand 12 = .ok (.iconst 0, 1) := dk_3 (dk_at dksX4_hand_0 12 rfl rfl)
theorem dX4_hand_13 : decode cX4_hand 13 = .ok (.iconst 2, 1) := dk_5 (dk_at dksX4_hand_0 13 rfl rfl)
theorem dX4_hand_14 : decode cX4_hand 14 = .ok (.invokestatic 87, 3) := dk_184 0 87 (dk_at dksX4_hand_0 14 rfl rfl)
theorem dX4_hand_17 : decode cX4_hand 17 = .ok (.ifCond .eq 13, 3) := dk_153 0 13 (dk_at dksX4_hand_0 17 rfl rfl)
theorem dX4_hand_20 : decode cX4_hand 20 = .ok (.iload_n 2, 1) := dk_28 (dk_at dksX4_hand_0 20 rfl rfl)
theorem dX4_hand_21 : decode cX4_hand 21 = .ok (.iconst 1, 1) := dk_4 (dk_at dksX4_hand_0 21 rfl rfl)
theorem dX4_hand_22 : decode cX4_hand 22 = .ok (.bipush 30, 2) := dk_16 30 (dk_at dksX4_hand_0 22 rfl rfl)
theorem dX4_hand_24 : decode cX4_hand 24 = .ok (.invokestatic 87, 3) := dk_184 0 87 (dk_at dksX4_hand_1 0 rfl rfl)
theorem dX4_hand_27 : decode cX4_hand 27 = .ok (.ifCond .ne 9, 3) := dk_154 0 9 (dk_at dksX4_hand_1 3 rfl rfl)
theorem dX4_hand_30 : decode cX4_hand 30 = .ok (.aload_n 0, 1) := dk_42 (dk_at dksX4_hand_1 6 rfl rfl)
theorem dX4_hand_31 : decode cX4_hand 31 = .ok (.iconst 1, 1) := dk_4 (dk_at dksX4_hand_1 7 rfl rfl)
theorem dX4_hand_32 : decode cX4_hand 32 = .ok (.invokevirtual 119, 3) := dk_182 0 119 (dk_at dksX4_hand_1 8 rfl rfl)
theorem dX4_hand_35 : decode cX4_hand 35 = .ok (.ireturn, 1) := dk_172 (dk_at dksX4_hand_1 11 rfl rfl)
theorem dX4_hand_36 : decode cX4_hand 36 = .ok (.iload_n 3, 1) := dk_29 (dk_at dksX4_hand_1 12 rfl rfl)
theorem dX4_hand_37 : decode cX4_hand 37 = .ok (.bipush 6, 2) := dk_16 6 (dk_at dksX4_hand_1 13 rfl rfl)
theorem dX4_hand_39 : decode cX4_hand 39 = .ok (.if_icmp .ne 9, 3) := dk_160 0 9 (dk_at dksX4_hand_1 15 rfl rfl)
theorem dX4_hand_42 : decode cX4_hand 42 = .ok (.aload_n 0, 1) := dk_42 (dk_at dksX4_hand_1 18 rfl rfl)
theorem dX4_hand_43 : decode cX4_hand 43 = .ok (.iconst 2, 1) := dk_5 (dk_at dksX4_hand_1 19 rfl rfl)
theorem dX4_hand_44 : decode cX4_hand 44 = .ok (.invokevirtual 119, 3) := dk_182 0 119 (dk_at dksX4_hand_1 20 rfl rfl)
theorem dX4_hand_47 : decode cX4_hand 47 = .ok (.ireturn, 1) := dk_172 (dk_at dksX4_hand_1 23 rfl rfl)
theorem dX4_hand_48 : decode cX4_hand 48 = .ok (.aload_n 0, 1) := dk_42 (dk_at dksX4_hand_2 0 rfl rfl)
theorem dX4_hand_49 : decode cX4_hand 49 = .ok (.getfield 9, 3) := dk_180 0 9 (dk_at dksX4_hand_2 1 rfl rfl)
theorem dX4_hand_52 : decode cX4_hand 52 = .ok (.bipush 67, 2) := dk_16 67 (dk_at dksX4_hand_2 4 rfl rfl)
theorem dX4_hand_54 : decode cX4_hand 54 = .ok (.iconst 2, 1) := dk_5 (dk_at dksX4_hand_2 6 rfl rfl)
theorem dX4_hand_55 : decode cX4_hand 55 = .ok (.iload_n 3, 1) := dk_29 (dk_at dksX4_hand_2 7 rfl rfl)
theorem dX4_hand_56 : decode cX4_hand 56 = .ok (.imul, 1) := dk_104 (dk_at dksX4_hand_2 8 rfl rfl)
theorem dX4_hand_57 : decode cX4_hand 57 = .ok (.iadd, 1) := dk_96 (dk_at dksX4_hand_2 9 rfl rfl)
theorem dX4_hand_58 : decode cX4_hand 58 = .ok (.iload_n 1, 1) := dk_27 (dk_at dksX4_hand_2 10 rfl rfl)
theorem dX4_hand_59 : decode cX4_hand 59 = .ok (.iastore, 1) := dk_79 (dk_at dksX4_hand_2 11 rfl rfl)
theorem dX4_hand_60 : decode cX4_hand 60 = .ok (.aload_n 0, 1) := dk_42 (dk_at dksX4_hand_2 12 rfl rfl)
theorem dX4_hand_61 : decode cX4_hand 61 = .ok (.getfield 9, 3) := dk_180 0 9 (dk_at dksX4_hand_2 13 rfl rfl)
theorem dX4_hand_64 : decode cX4_hand 64 = .ok (.bipush 67, 2) := dk_16 67 (dk_at dksX4_hand_2 16 rfl rfl)
theorem dX4_hand_66 : decode cX4_hand 66 = .ok (.iconst 2, 1) := dk_5 (dk_at dksX4_hand_2 18 rfl rfl)
theorem dX4_hand_67 : decode cX4_hand 67 = .ok (.iload_n 3, 1) := dk_29 (dk_at dksX4_hand_2 19 rfl rfl)
theorem dX4_hand_68 : decode cX4_hand 68 = .ok (.imul, 1) := dk_104 (dk_at dksX4_hand_2 20 rfl rfl)
theorem dX4_hand_69 : decode cX4_hand 69 = .ok (.iadd, 1) := dk_96 (dk_at dksX4_hand_2 21 rfl rfl)
theorem dX4_hand_70 : decode cX4_hand 70 = .ok (.iconst 1, 1) := dk_4 (dk_at dksX4_hand_2 22 rfl rfl)
theorem dX4_hand_71 : decode cX4_hand 71 = .ok (.iadd, 1) := dk_96 (dk_at dksX4_hand_2 23 rfl rfl)
theorem dX4_hand_72 : decode cX4_hand 72 = .ok (.iload_n 2, 1) := dk_28 (dk_at dksX4_hand_3 0 rfl rfl)
theorem dX4_hand_73 : decode cX4_hand 73 = .ok (.iastore, 1) := dk_79 (dk_at dksX4_hand_3 1 rfl rfl)
theorem dX4_hand_74 : decode cX4_hand 74 = .ok (.aload_n 0, 1) := dk_42 (dk_at dksX4_hand_3 2 rfl rfl)
theorem dX4_hand_75 : decode cX4_hand 75 = .ok (.getfield 9, 3) := dk_180 0 9 (dk_at dksX4_hand_3 3 rfl rfl)
theorem dX4_hand_78 : decode cX4_hand 78 = .ok (.iconst 3, 1) := dk_6 (dk_at dksX4_hand_3 6 rfl rfl)
theorem dX4_hand_79 : decode cX4_hand 79 = .ok (.dup2, 1) := dk_92 (dk_at dksX4_hand_3 7 rfl rfl)
theorem dX4_hand_80 : decode cX4_hand 80 = .ok (.iaload, 1) := dk_46 (dk_at dksX4_hand_3 8 rfl rfl)
theorem dX4_hand_81 : decode cX4_hand 81 = .ok (.iconst 1, 1) := dk_4 (dk_at dksX4_hand_3 9 rfl rfl)
theorem dX4_hand_82 : decode cX4_hand 82 = .ok (.iadd, 1) := dk_96 (dk_at dksX4_hand_3 10 rfl rfl)
theorem dX4_hand_83 : decode cX4_hand 83 = .ok (.iastore, 1) := dk_79 (dk_at dksX4_hand_3 11 rfl rfl)
theorem dX4_hand_84 : decode cX4_hand 84 = .ok (.aload_n 0, 1) := dk_42 (dk_at dksX4_hand_3 12 rfl rfl)
theorem dX4_hand_85 : decode cX4_hand 85 = .ok (.iload_n 3, 1) := dk_29 (dk_at dksX4_hand_3 13 rfl rfl)
theorem dX4_hand_86 : decode cX4_hand 86 = .ok (.invokevirtual 122, 3) := dk_182 0 122 (dk_at dksX4_hand_3 14 rfl rfl)
theorem dX4_hand_89 : decode cX4_hand 89 = .ok (.ireturn, 1) := dk_172 (dk_at dksX4_hand_3 17 rfl rfl)
abbrev cX4_move : ByteArray := prog_21_method_44_code
def yX4_move : MethodName := ⟨RX4, "move", "(II)I"⟩
def dkwX4_move_2 : List UInt8 := [16, 67, 5, 27, 104, 96, 28, 79, 42, 42, 28, 182, 0, 171, 182, 0, 122, 172]
abbrev dktX4_move_2 : List UInt8 := dkwX4_move_2 ++ []
def dkwX4_move_1 : List UInt8 := [182, 0, 119, 172, 28, 3, 5, 184, 0, 87, 154, 0, 9, 42, 5, 182, 0, 119, 172, 42, 180, 0, 9]
abbrev dktX4_move_1 : List UInt8 := dkwX4_move_1 ++ dktX4_move_2
def dkwX4_move_0 : List UInt8 := [42, 182, 0, 116, 27, 3, 42, 180, 0, 9, 6, 46, 4, 100, 184, 0, 87, 154, 0, 9, 42, 4]
abbrev dktX4_move_0 : List UInt8 := dkwX4_move_0 ++ dktX4_move_1
theorem dksX4_move_0 : cX4_move.data.toList.drop 0 = dktX4_move_0 := by decide +kernel
theorem dksX4_move_1 : cX4_move.data.toList.drop 22 = dktX4_move_1 := dk_seg dksX4_move_0 22 rfl rfl
theorem dksX4_move_2 : cX4_move.data.toList.drop 45 = dktX4_move_2 := dk_seg dksX4_move_1 23 rfl rfl
theorem dX4_move_0 : decode cX4_move 0 = .ok (.aload_n 0, 1) := dk_42 (dk_at dksX4_move_0 0 rfl rfl)
theorem dX4_move_1 : decode cX4_move 1 = .ok (.invokevirtual 116, 3) := dk_182 0 116 (dk_at dksX4_move_0 1 rfl rfl)
theorem dX4_move_4 : decode cX4_move 4 = .ok (.iload_n 1, 1) := dk_27 (dk_at dksX4_move_0 4 rfl rfl)
theorem dX4_move_5 : decode cX4_move 5 = .ok (.iconst 0, 1) := dk_3 (dk_at dksX4_move_0 5 rfl rfl)
theorem dX4_move_6 : decode cX4_move 6 = .ok (.aload_n 0, 1) := dk_42 (dk_at dksX4_move_0 6 rfl rfl)
theorem dX4_move_7 : decode cX4_move 7 = .ok (.getfield 9, 3) := dk_180 0 9 (dk_at dksX4_move_0 7 rfl rfl)
theorem dX4_move_10 : decode cX4_move 10 = .ok (.iconst 3, 1) := dk_6 (dk_at dksX4_move_0 10 rfl rfl)
theorem dX4_move_11 : decode cX4_move 11 = .ok (.iaload, 1) := dk_46 (dk_at dksX4_move_0 11 rfl rfl)
theorem dX4_move_12 : decode cX4_move 12 = .ok (.iconst 1, 1) := dk_4 (dk_at dksX4_move_0 12 rfl rfl)
theorem dX4_move_13 : decode cX4_move 13 = .ok (.isub, 1) := dk_100 (dk_at dksX4_move_0 13 rfl rfl)
theorem dX4_move_14 : decode cX4_move 14 = .ok (.invokestatic 87, 3) := dk_184 0 87 (dk_at dksX4_move_0 14 rfl rfl)
theorem dX4_move_17 : decode cX4_move 17 = .ok (.ifCond .ne 9, 3) := dk_154 0 9 (dk_at dksX4_move_0 17 rfl rfl)
theorem dX4_move_20 : decode cX4_move 20 = .ok (.aload_n 0, 1) := dk_42 (dk_at dksX4_move_0 20 rfl rfl)
theorem dX4_move_21 : decode cX4_move 21 = .ok (.iconst 1, 1) := dk_4 (dk_at dksX4_move_0 21 rfl rfl)
theorem dX4_move_22 : decode cX4_move 22 = .ok (.invokevirtual 119, 3) := dk_182 0 119 (dk_at dksX4_move_1 0 rfl rfl)
theorem dX4_move_25 : decode cX4_move 25 = .ok (.ireturn, 1) := dk_172 (dk_at dksX4_move_1 3 rfl rfl)
theorem dX4_move_26 : decode cX4_move 26 = .ok (.iload_n 2, 1) := dk_28 (dk_at dksX4_move_1 4 rfl rfl)
theorem dX4_move_27 : decode cX4_move 27 = .ok (.iconst 0, 1) := dk_3 (dk_at dksX4_move_1 5 rfl rfl)
theorem dX4_move_28 : decode cX4_move 28 = .ok (.iconst 2, 1) := dk_5 (dk_at dksX4_move_1 6 rfl rfl)
theorem dX4_move_29 : decode cX4_move 29 = .ok (.invokestatic 87, 3) := dk_184 0 87 (dk_at dksX4_move_1 7 rfl rfl)
theorem dX4_move_32 : decode cX4_move 32 = .ok (.ifCond .ne 9, 3) := dk_154 0 9 (dk_at dksX4_move_1 10 rfl rfl)
theorem dX4_move_35 : decode cX4_move 35 = .ok (.aload_n 0, 1) := dk_42 (dk_at dksX4_move_1 13 rfl rfl)
theorem dX4_move_36 : decode cX4_move 36 = .ok (.iconst 2, 1) := dk_5 (dk_at dksX4_move_1 14 rfl rfl)
theorem dX4_move_37 : decode cX4_move 37 = .ok (.invokevirtual 119, 3) := dk_182 0 119 (dk_at dksX4_move_1 15 rfl rfl)
theorem dX4_move_40 : decode cX4_move 40 = .ok (.ireturn, 1) := dk_172 (dk_at dksX4_move_1 18 rfl rfl)
theorem dX4_move_41 : decode cX4_move 41 = .ok (.aload_n 0, 1) := dk_42 (dk_at dksX4_move_1 19 rfl rfl)
theorem dX4_move_42 : decode cX4_move 42 = .ok (.getfield 9, 3) := dk_180 0 9 (dk_at dksX4_move_1 20 rfl rfl)
theorem dX4_move_45 : decode cX4_move 45 = .ok (.bipush 67, 2) := dk_16 67 (dk_at dksX4_move_2 0 rfl rfl)
theorem dX4_move_47 : decode cX4_move 47 = .ok (.iconst 2, 1) := dk_5 (dk_at dksX4_move_2 2 rfl rfl)
theorem dX4_move_48 : decode cX4_move 48 = .ok (.iload_n 1, 1) := dk_27 (dk_at dksX4_move_2 3 rfl rfl)
theorem dX4_move_49 : decode cX4_move 49 = .ok (.imul, 1) := dk_104 (dk_at dksX4_move_2 4 rfl rfl)
theorem dX4_move_50 : decode cX4_move 50 = .ok (.iadd, 1) := dk_96 (dk_at dksX4_move_2 5 rfl rfl)
theorem dX4_move_51 : decode cX4_move 51 = .ok (.iload_n 2, 1) := dk_28 (dk_at dksX4_move_2 6 rfl rfl)
theorem dX4_move_52 : decode cX4_move 52 = .ok (.iastore, 1) := dk_79 (dk_at dksX4_move_2 7 rfl rfl)
theorem dX4_move_53 : decode cX4_move 53 = .ok (.aload_n 0, 1) := dk_42 (dk_at dksX4_move_2 8 rfl rfl)
theorem dX4_move_54 : decode cX4_move 54 = .ok (.aload_n 0, 1) := dk_42 (dk_at dksX4_move_2 9 rfl rfl)
theorem dX4_move_55 : decode cX4_move 55 = .ok (.iload_n 2, 1) := dk_28 (dk_at dksX4_move_2 10 rfl rfl)
theorem dX4_move_56 : decode cX4_move 56 = .ok (.invokevirtual 171, 3) := dk_182 0 171 (dk_at dksX4_move_2 11 rfl rfl)
theorem dX4_move_59 : decode cX4_move 59 = .ok (.invokevirtual 122, 3) := dk_182 0 122 (dk_at dksX4_move_2 14 rfl rfl)
theorem dX4_move_62 : decode cX4_move 62 = .ok (.ireturn, 1) := dk_172 (dk_at dksX4_move_2 17 rfl rfl)
abbrev cX4_strengthOf : ByteArray := prog_21_method_43_code
def yX4_strengthOf : MethodName := ⟨RX4, "strengthOf", "(I)I"⟩
def dkwX4_strengthOf_2 : List UInt8 := [61, 132, 3, 1, 167, 255, 208, 28, 172]
abbrev dktX4_strengthOf_2 : List UInt8 := dkwX4_strengthOf_2 ++ []
def dkwX4_strengthOf_1 : List UInt8 := [96, 46, 27, 160, 0, 19, 42, 180, 0, 9, 16, 67, 5, 29, 104, 96, 4, 96, 46, 167, 0, 4, 3, 96]
abbrev dktX4_strengthOf_1 : List UInt8 := dkwX4_strengthOf_1 ++ dktX4_strengthOf_2
def dkwX4_strengthOf_0 : List UInt8 := [3, 61, 3, 62, 29, 42, 180, 0, 9, 6, 46, 162, 0, 44, 28, 42, 180, 0, 9, 16, 67, 5, 29, 104]
abbrev dktX4_strengthOf_0 : List UInt8 := dkwX4_strengthOf_0 ++ dktX4_strengthOf_1
theorem dksX4_strengthOf_0 : cX4_strengthOf.data.toList.drop 0 = dktX4_strengthOf_0 := by decide +kernel
theorem dksX4_strengthOf_1 : cX4_strengthOf.data.toList.drop 24 = dktX4_strengthOf_1 := dk_seg dksX4_strengthOf_0 24 rfl rfl
theorem dksX4_strengthOf_2 : cX4_strengthOf.data.toList.drop 48 = dktX4_strengthOf_2 := dk_seg dksX4_strengthOf_1 24 rfl rfl
theorem dX4_strengthOf_0 : decode cX4_strengthOf 0 = .ok (.iconst 0, 1) := dk_3 (dk_at dksX4_strengthOf_0 0 rfl rfl)
theorem dX4_strengthOf_1 : decode cX4_strengthOf 1 = .ok (.istore_n 2, 1) := dk_61 (dk_at dksX4_strengthOf_0 1 rfl rfl)
theorem dX4_strengthOf_2 : decode cX4_strengthOf 2 = .ok (.iconst 0, 1) := dk_3 (dk_at dksX4_strengthOf_0 2 rfl rfl)
theorem dX4_strengthOf_3 : decode cX4_strengthOf 3 = .ok (.istore_n 3, 1) := dk_62 (dk_at dksX4_strengthOf_0 3 rfl rfl)
theorem dX4_strengthOf_4 : decode cX4_strengthOf 4 = .ok (.iload_n 3, 1) := dk_29 (dk_at dksX4_strengthOf_0 4 rfl rfl)
theorem dX4_strengthOf_5 : decode cX4_strengthOf 5 = .ok (.aload_n 0, 1) := dk_42 (dk_at dksX4_strengthOf_0 5 rfl rfl)
theorem dX4_strengthOf_6 : decode cX4_strengthOf 6 = .ok (.getfield 9, 3) := dk_180 0 9 (dk_at dksX4_strengthOf_0 6 rfl rfl)
theorem dX4_strengthOf_9 : decode cX4_strengthOf 9 = .ok (.iconst 3, 1) := dk_6 (dk_at dksX4_strengthOf_0 9 rfl rfl)
theorem dX4_strengthOf_10 : decode cX4_strengthOf 10 = .ok (.iaload, 1) := dk_46 (dk_at dksX4_strengthOf_0 10 rfl rfl)
theorem dX4_strengthOf_11 : decode cX4_strengthOf 11 = .ok (.if_icmp .ge 44, 3) := dk_162 0 44 (dk_at dksX4_strengthOf_0 11 rfl rfl)
theorem dX4_strengthOf_14 : decode cX4_strengthOf 14 = .ok (.iload_n 2, 1) := dk_28 (dk_at dksX4_strengthOf_0 14 rfl rfl)
theorem dX4_strengthOf_15 : decode cX4_strengthOf 15 = .ok (.aload_n 0, 1) := dk_42 (dk_at dksX4_strengthOf_0 15 rfl rfl)
theorem dX4_strengthOf_16 : decode cX4_strengthOf 16 = .ok (.getfield 9, 3) := dk_180 0 9 (dk_at dksX4_strengthOf_0 16 rfl rfl)
theorem dX4_strengthOf_19 : decode cX4_strengthOf 19 = .ok (.bipush 67, 2) := dk_16 67 (dk_at dksX4_strengthOf_0 19 rfl rfl)
theorem dX4_strengthOf_21 : decode cX4_strengthOf 21 = .ok (.iconst 2, 1) := dk_5 (dk_at dksX4_strengthOf_0 21 rfl rfl)
theorem dX4_strengthOf_22 : decode cX4_strengthOf 22 = .ok (.iload_n 3, 1) := dk_29 (dk_at dksX4_strengthOf_0 22 rfl rfl)
theorem dX4_strengthOf_23 : decode cX4_strengthOf 23 = .ok (.imul, 1) := dk_104 (dk_at dksX4_strengthOf_0 23 rfl rfl)
theorem dX4_strengthOf_24 : decode cX4_strengthOf 24 = .ok (.iadd, 1) := dk_96 (dk_at dksX4_strengthOf_1 0 rfl rfl)
theorem dX4_strengthOf_25 : decode cX4_strengthOf 25 = .ok (.iaload, 1) := dk_46 (dk_at dksX4_strengthOf_1 1 rfl rfl)
theorem dX4_strengthOf_26 : decode cX4_strengthOf 26 = .ok (.iload_n 1, 1) := dk_27 (dk_at dksX4_strengthOf_1 2 rfl rfl)
theorem dX4_strengthOf_27 : decode cX4_strengthOf 27 = .ok (.if_icmp .ne 19, 3) := dk_160 0 19 (dk_at dksX4_strengthOf_1 3 rfl rfl)
theorem dX4_strengthOf_30 : decode cX4_strengthOf 30 = .ok (.aload_n 0, 1) := dk_42 (dk_at dksX4_strengthOf_1 6 rfl rfl)
theorem dX4_strengthOf_31 : decode cX4_strengthOf 31 = .ok (.getfield 9, 3) := dk_180 0 9 (dk_at dksX4_strengthOf_1 7 rfl rfl)
theorem dX4_strengthOf_34 : decode cX4_strengthOf 34 = .ok (.bipush 67, 2) := dk_16 67 (dk_at dksX4_strengthOf_1 10 rfl rfl)
theorem dX4_strengthOf_36 : decode cX4_strengthOf 36 = .ok (.iconst 2, 1) := dk_5 (dk_at dksX4_strengthOf_1 12 rfl rfl)
theorem dX4_strengthOf_37 : decode cX4_strengthOf 37 = .ok (.iload_n 3, 1) := dk_29 (dk_at dksX4_strengthOf_1 13 rfl rfl)
theorem dX4_strengthOf_38 : decode cX4_strengthOf 38 = .ok (.imul, 1) := dk_104 (dk_at dksX4_strengthOf_1 14 rfl rfl)
theorem dX4_strengthOf_39 : decode cX4_strengthOf 39 = .ok (.iadd, 1) := dk_96 (dk_at dksX4_strengthOf_1 15 rfl rfl)
theorem dX4_strengthOf_40 : decode cX4_strengthOf 40 = .ok (.iconst 1, 1) := dk_4 (dk_at dksX4_strengthOf_1 16 rfl rfl)
theorem dX4_strengthOf_41 : decode cX4_strengthOf 41 = .ok (.iadd, 1) := dk_96 (dk_at dksX4_strengthOf_1 17 rfl rfl)
theorem dX4_strengthOf_42 : decode cX4_strengthOf 42 = .ok (.iaload, 1) := dk_46 (dk_at dksX4_strengthOf_1 18 rfl rfl)
theorem dX4_strengthOf_43 : decode cX4_strengthOf 43 = .ok (.goto 4, 3) := dk_167 0 4 (dk_at dksX4_strengthOf_1 19 rfl rfl)
theorem dX4_strengthOf_46 : decode cX4_strengthOf 46 = .ok (.iconst 0, 1) := dk_3 (dk_at dksX4_strengthOf_1 22 rfl rfl)
theorem dX4_strengthOf_47 : decode cX4_strengthOf 47 = .ok (.iadd, 1) := dk_96 (dk_at dksX4_strengthOf_1 23 rfl rfl)
theorem dX4_strengthOf_48 : decode cX4_strengthOf 48 = .ok (.istore_n 2, 1) := dk_61 (dk_at dksX4_strengthOf_2 0 rfl rfl)
theorem dX4_strengthOf_49 : decode cX4_strengthOf 49 = .ok (.iinc 3 1, 3) := dk_132 3 1 (dk_at dksX4_strengthOf_2 1 rfl rfl)
theorem dX4_strengthOf_52 : decode cX4_strengthOf 52 = .ok (.goto (-48), 3) := dk_167 255 208 (dk_at dksX4_strengthOf_2 4 rfl rfl)
theorem dX4_strengthOf_55 : decode cX4_strengthOf 55 = .ok (.iload_n 2, 1) := dk_28 (dk_at dksX4_strengthOf_2 7 rfl rfl)
theorem dX4_strengthOf_56 : decode cX4_strengthOf 56 = .ok (.ireturn, 1) := dk_172 (dk_at dksX4_strengthOf_2 8 rfl rfl)
abbrev cX4_strength : ByteArray := prog_21_method_45_code
def yX4_strength : MethodName := ⟨RX4, "strength", "(I)I"⟩
def dkwX4_strength_1 : List UInt8 := [158, 0, 7, 3, 167, 0, 8, 42, 27, 182, 0, 171, 172]
abbrev dktX4_strength_1 : List UInt8 := dkwX4_strength_1 ++ []
def dkwX4_strength_0 : List UInt8 := [42, 27, 3, 5, 184, 0, 87, 153, 0, 7, 3, 167, 0, 4, 4, 181, 0, 69, 42, 180, 0, 69]
abbrev dktX4_strength_0 : List UInt8 := dkwX4_strength_0 ++ dktX4_strength_1
theorem dksX4_strength_0 : cX4_strength.data.toList.drop 0 = dktX4_strength_0 := by decide +kernel
theorem dksX4_strength_1 : cX4_strength.data.toList.drop 22 = dktX4_strength_1 := dk_seg dksX4_strength_0 22 rfl rfl
theorem dX4_strength_0 : decode cX4_strength 0 = .ok (.aload_n 0, 1) := dk_42 (dk_at dksX4_strength_0 0 rfl rfl)
theorem dX4_strength_1 : decode cX4_strength 1 = .ok (.iload_n 1, 1) := dk_27 (dk_at dksX4_strength_0 1 rfl rfl)
theorem dX4_strength_2 : decode cX4_strength 2 = .ok (.iconst 0, 1) := dk_3 (dk_at dksX4_strength_0 2 rfl rfl)
theorem dX4_strength_3 : decode cX4_strength 3 = .ok (.iconst 2, 1) := dk_5 (dk_at dksX4_strength_0 3 rfl rfl)
theorem dX4_strength_4 : decode cX4_strength 4 = .ok (.invokestatic 87, 3) := dk_184 0 87 (dk_at dksX4_strength_0 4 rfl rfl)
theorem dX4_strength_7 : decode cX4_strength 7 = .ok (.ifCond .eq 7, 3) := dk_153 0 7 (dk_at dksX4_strength_0 7 rfl rfl)
theorem dX4_strength_10 : decode cX4_strength 10 = .ok (.iconst 0, 1) := dk_3 (dk_at dksX4_strength_0 10 rfl rfl)
theorem dX4_strength_11 : decode cX4_strength 11 = .ok (.goto 4, 3) := dk_167 0 4 (dk_at dksX4_strength_0 11 rfl rfl)
theorem dX4_strength_14 : decode cX4_strength 14 = .ok (.iconst 1, 1) := dk_4 (dk_at dksX4_strength_0 14 rfl rfl)
theorem dX4_strength_15 : decode cX4_strength 15 = .ok (.putfield 69, 3) := dk_181 0 69 (dk_at dksX4_strength_0 15 rfl rfl)
theorem dX4_strength_18 : decode cX4_strength 18 = .ok (.aload_n 0, 1) := dk_42 (dk_at dksX4_strength_0 18 rfl rfl)
theorem dX4_strength_19 : decode cX4_strength 19 = .ok (.getfield 69, 3) := dk_180 0 69 (dk_at dksX4_strength_0 19 rfl rfl)
theorem dX4_strength_22 : decode cX4_strength 22 = .ok (.ifCond .le 7, 3) := dk_158 0 7 (dk_at dksX4_strength_1 0 rfl rfl)
theorem dX4_strength_25 : decode cX4_strength 25 = .ok (.iconst 0, 1) := dk_3 (dk_at dksX4_strength_1 3 rfl rfl)
theorem dX4_strength_26 : decode cX4_strength 26 = .ok (.goto 8, 3) := dk_167 0 8 (dk_at dksX4_strength_1 4 rfl rfl)
theorem dX4_strength_29 : decode cX4_strength 29 = .ok (.aload_n 0, 1) := dk_42 (dk_at dksX4_strength_1 7 rfl rfl)
theorem dX4_strength_30 : decode cX4_strength 30 = .ok (.iload_n 1, 1) := dk_27 (dk_at dksX4_strength_1 8 rfl rfl)
theorem dX4_strength_31 : decode cX4_strength 31 = .ok (.invokevirtual 171, 3) := dk_182 0 171 (dk_at dksX4_strength_1 9 rfl rfl)
theorem dX4_strength_34 : decode cX4_strength 34 = .ok (.ireturn, 1) := dk_172 (dk_at dksX4_strength_1 12 rfl rfl)
abbrev cX4_door : ByteArray := prog_21_method_48_code
def yX4_door : MethodName := ⟨RX4, "door", "(IZ)I"⟩
def dkwX4_door_0 : List UInt8 := [42, 182, 0, 116, 42, 42, 27, 28, 182, 0, 177, 182, 0, 122, 172]
abbrev dktX4_door_0 : List UInt8 := dkwX4_door_0 ++ []
theorem dksX4_door_0 : cX4_door.data.toList.drop 0 = dktX4_door_0 := by decide +kernel
theorem dX4_door_0 : decode cX4_door 0 = .ok (.aload_n 0, 1) := dk_42 (dk_at dksX4_door_0 0 rfl rfl)
theorem dX4_door_1 : decode cX4_door 1 = .ok (.invokevirtual 116, 3) := dk_182 0 116 (dk_at dksX4_door_0 1 rfl rfl)
theorem dX4_door_4 : decode cX4_door 4 = .ok (.aload_n 0, 1) := dk_42 (dk_at dksX4_door_0 4 rfl rfl)
theorem dX4_door_5 : decode cX4_door 5 = .ok (.aload_n 0, 1) := dk_42 (dk_at dksX4_door_0 5 rfl rfl)
theorem dX4_door_6 : decode cX4_door 6 = .ok (.iload_n 1, 1) := dk_27 (dk_at dksX4_door_0 6 rfl rfl)
theorem dX4_door_7 : decode cX4_door 7 = .ok (.iload_n 2, 1) := dk_28 (dk_at dksX4_door_0 7 rfl rfl)
theorem dX4_door_8 : decode cX4_door 8 = .ok (.invokevirtual 177, 3) := dk_182 0 177 (dk_at dksX4_door_0 8 rfl rfl)
theorem dX4_door_11 : decode cX4_door 11 = .ok (.invokevirtual 122, 3) := dk_182 0 122 (dk_at dksX4_door_0 11 rfl rfl)
theorem dX4_door_14 : decode cX4_door 14 = .ok (.ireturn, 1) := dk_172 (dk_at dksX4_door_0 14 rfl rfl)
abbrev cX4_doDoor : ByteArray := prog_21_method_47_code
def yX4_doDoor : MethodName := ⟨RX4, "doDoor", "(IZ)I"⟩
def dkwX4_doDoor_1 : List UInt8 := [153, 0, 7, 4, 167, 0, 4, 3, 79, 42, 182, 0, 174, 172]
abbrev dktX4_doDoor_1 : List UInt8 := dkwX4_doDoor_1 ++ []
def dkwX4_doDoor_0 : List UInt8 := [27, 3, 6, 184, 0, 87, 154, 0, 9, 42, 4, 182, 0, 119, 172, 42, 180, 0, 9, 16, 79, 27, 96, 28]
abbrev dktX4_doDoor_0 : List UInt8 := dkwX4_doDoor_0 ++ dktX4_doDoor_1
theorem dksX4_doDoor_0 : cX4_doDoor.data.toList.drop 0 = dktX4_doDoor_0 := by decide +kernel
theorem dksX4_doDoor_1 : cX4_doDoor.data.toList.drop 24 = dktX4_doDoor_1 := dk_seg dksX4_doDoor_0 24 rfl rfl
theorem dX4_doDoor_0 : decode cX4_doDoor 0 = .ok (.iload_n 1, 1) := dk_27 (dk_at dksX4_doDoor_0 0 rfl rfl)
theorem dX4_doDoor_1 : decode cX4_doDoor 1 = .ok (.iconst 0, 1) := dk_3 (dk_at dksX4_doDoor_0 1 rfl rfl)
theorem dX4_doDoor_2 : decode cX4_doDoor 2 = .ok (.iconst 3, 1) := dk_6 (dk_at dksX4_doDoor_0 2 rfl rfl)
theorem dX4_doDoor_3 : decode cX4_doDoor 3 = .ok (.invokestatic 87, 3) := dk_184 0 87 (dk_at dksX4_doDoor_0 3 rfl rfl)
theorem dX4_doDoor_6 : decode cX4_doDoor 6 = .ok (.ifCond .ne 9, 3) := dk_154 0 9 (dk_at dksX4_doDoor_0 6 rfl rfl)
theorem dX4_doDoor_9 : decode cX4_doDoor 9 = .ok (.aload_n 0, 1) := dk_42 (dk_at dksX4_doDoor_0 9 rfl rfl)
theorem dX4_doDoor_10 : decode cX4_doDoor 10 = .ok (.iconst 1, 1) := dk_4 (dk_at dksX4_doDoor_0 10 rfl rfl)
theorem dX4_doDoor_11 : decode cX4_doDoor 11 = .ok (.invokevirtual 119, 3) := dk_182 0 119 (dk_at dksX4_doDoor_0 11 rfl rfl)
theorem dX4_doDoor_14 : decode cX4_doDoor 14 = .ok (.ireturn, 1) := dk_172 (dk_at dksX4_doDoor_0 14 rfl rfl)
theorem dX4_doDoor_15 : decode cX4_doDoor 15 = .ok (.aload_n 0, 1) := dk_42 (dk_at dksX4_doDoor_0 15 rfl rfl)
theorem dX4_doDoor_16 : decode cX4_doDoor 16 = .ok (.getfield 9, 3) := dk_180 0 9 (dk_at dksX4_doDoor_0 16 rfl rfl)
theorem dX4_doDoor_19 : decode cX4_doDoor 19 = .ok (.bipush 79, 2) := dk_16 79 (dk_at dksX4_doDoor_0 19 rfl rfl)
theorem dX4_doDoor_21 : decode cX4_doDoor 21 = .ok (.iload_n 1, 1) := dk_27 (dk_at dksX4_doDoor_0 21 rfl rfl)
theorem dX4_doDoor_22 : decode cX4_doDoor 22 = .ok (.iadd, 1) := dk_96 (dk_at dksX4_doDoor_0 22 rfl rfl)
theorem dX4_doDoor_23 : decode cX4_doDoor 23 = .ok (.iload_n 2, 1) := dk_28 (dk_at dksX4_doDoor_0 23 rfl rfl)
theorem dX4_doDoor_24 : decode cX4_doDoor 24 = .ok (.ifCond .eq 7, 3) := dk_153 0 7 (dk_at dksX4_doDoor_1 0 rfl rfl)
theorem dX4_doDoor_27 : decode cX4_doDoor 27 = .ok (.iconst 1, 1) := dk_4 (dk_at dksX4_doDoor_1 3 rfl rfl)
theorem dX4_doDoor_28 : decode cX4_doDoor 28 = .ok (.goto 4, 3) := dk_167 0 4 (dk_at dksX4_doDoor_1 4 rfl rfl)
theorem dX4_doDoor_31 : decode cX4_doDoor 31 = .ok (.iconst 0, 1) := dk_3 (dk_at dksX4_doDoor_1 7 rfl rfl)
theorem dX4_doDoor_32 : decode cX4_doDoor 32 = .ok (.iastore, 1) := dk_79 (dk_at dksX4_doDoor_1 8 rfl rfl)
theorem dX4_doDoor_33 : decode cX4_doDoor 33 = .ok (.aload_n 0, 1) := dk_42 (dk_at dksX4_doDoor_1 9 rfl rfl)
theorem dX4_doDoor_34 : decode cX4_doDoor 34 = .ok (.invokevirtual 174, 3) := dk_182 0 174 (dk_at dksX4_doDoor_1 10 rfl rfl)
theorem dX4_doDoor_37 : decode cX4_doDoor 37 = .ok (.ireturn, 1) := dk_172 (dk_at dksX4_doDoor_1 13 rfl rfl)
abbrev cX4_openDoors : ByteArray := prog_21_method_46_code
def yX4_openDoors : MethodName := ⟨RX4, "openDoors", "()I"⟩
def dkwX4_openDoors_1 : List UInt8 := [167, 255, 236, 27, 172]
abbrev dktX4_openDoors_1 : List UInt8 := dkwX4_openDoors_1 ++ []
def dkwX4_openDoors_0 : List UInt8 := [3, 60, 3, 61, 28, 7, 162, 0, 21, 27, 42, 180, 0, 9, 16, 79, 28, 96, 46, 96, 60, 132, 2, 1]
abbrev dktX4_openDoors_0 : List UInt8 := dkwX4_openDoors_0 ++ dktX4_openDoors_1
theorem dksX4_openDoors_0 : cX4_openDoors.data.toList.drop 0 = dktX4_openDoors_0 := by decide +kernel
theorem dksX4_openDoors_1 : cX4_openDoors.data.toList.drop 24 = dktX4_openDoors_1 := dk_seg dksX4_openDoors_0 24 rfl rfl
theorem dX4_openDoors_0 : decode cX4_openDoors 0 = .ok (.iconst 0, 1) := dk_3 (dk_at dksX4_openDoors_0 0 rfl rfl)
theorem dX4_openDoors_1 : decode cX4_openDoors 1 = .ok (.istore_n 1, 1) := dk_60 (dk_at dksX4_openDoors_0 1 rfl rfl)
theorem dX4_openDoors_2 : decode cX4_openDoors 2 = .ok (.iconst 0, 1) := dk_3 (dk_at dksX4_openDoors_0 2 rfl rfl)
theorem dX4_openDoors_3 : decode cX4_openDoors 3 = .ok (.istore_n 2, 1) := dk_61 (dk_at dksX4_openDoors_0 3 rfl rfl)
theorem dX4_openDoors_4 : decode cX4_openDoors 4 = .ok (.iload_n 2, 1) := dk_28 (dk_at dksX4_openDoors_0 4 rfl rfl)
theorem dX4_openDoors_5 : decode cX4_openDoors 5 = .ok (.iconst 4, 1) := dk_7 (dk_at dksX4_openDoors_0 5 rfl rfl)
theorem dX4_openDoors_6 : decode cX4_openDoors 6 = .ok (.if_icmp .ge 21, 3) := dk_162 0 21 (dk_at dksX4_openDoors_0 6 rfl rfl)
theorem dX4_openDoors_9 : decode cX4_openDoors 9 = .ok (.iload_n 1, 1) := dk_27 (dk_at dksX4_openDoors_0 9 rfl rfl)
theorem dX4_openDoors_10 : decode cX4_openDoors 10 = .ok (.aload_n 0, 1) := dk_42 (dk_at dksX4_openDoors_0 10 rfl rfl)
theorem dX4_openDoors_11 : decode cX4_openDoors 11 = .ok (.getfield 9, 3) := dk_180 0 9 (dk_at dksX4_openDoors_0 11 rfl rfl)
theorem dX4_openDoors_14 : decode cX4_openDoors 14 = .ok (.bipush 79, 2) := dk_16 79 (dk_at dksX4_openDoors_0 14 rfl rfl)
theorem dX4_openDoors_16 : decode cX4_openDoors 16 = .ok (.iload_n 2, 1) := dk_28 (dk_at dksX4_openDoors_0 16 rfl rfl)
theorem dX4_openDoors_17 : decode cX4_openDoors 17 = .ok (.iadd, 1) := dk_96 (dk_at dksX4_openDoors_0 17 rfl rfl)
theorem dX4_openDoors_18 : decode cX4_openDoors 18 = .ok (.iaload, 1) := dk_46 (dk_at dksX4_openDoors_0 18 rfl rfl)
theorem dX4_openDoors_19 : decode cX4_openDoors 19 = .ok (.iadd, 1) := dk_96 (dk_at dksX4_openDoors_0 19 rfl rfl)
theorem dX4_openDoors_20 : decode cX4_openDoors 20 = .ok (.istore_n 1, 1) := dk_60 (dk_at dksX4_openDoors_0 20 rfl rfl)
theorem dX4_openDoors_21 : decode cX4_openDoors 21 = .ok (.iinc 2 1, 3) := dk_132 2 1 (dk_at dksX4_openDoors_0 21 rfl rfl)
theorem dX4_openDoors_24 : decode cX4_openDoors 24 = .ok (.goto (-20), 3) := dk_167 255 236 (dk_at dksX4_openDoors_1 0 rfl rfl)
theorem dX4_openDoors_27 : decode cX4_openDoors 27 = .ok (.iload_n 1, 1) := dk_27 (dk_at dksX4_openDoors_1 3 rfl rfl)
theorem dX4_openDoors_28 : decode cX4_openDoors 28 = .ok (.ireturn, 1) := dk_172 (dk_at dksX4_openDoors_1 4 rfl rfl)
abbrev cX4_noise : ByteArray := prog_21_method_50_code
def yX4_noise : MethodName := ⟨RX4, "noise", "(IIZ)I"⟩
def dkwX4_noise_2 : List UInt8 := [172]
abbrev dktX4_noise_2 : List UInt8 := dkwX4_noise_2 ++ []
def dkwX4_noise_1 : List UInt8 := [167, 0, 4, 3, 181, 0, 69, 42, 180, 0, 69, 158, 0, 7, 3, 167, 0, 9, 42, 27, 28, 182, 0, 181]
abbrev dktX4_noise_1 : List UInt8 := dkwX4_noise_1 ++ dktX4_noise_2
def dkwX4_noise_0 : List UInt8 := [42, 42, 27, 182, 0, 129, 154, 0, 7, 4, 167, 0, 18, 28, 3, 16, 20, 184, 0, 87, 154, 0, 7, 5]
abbrev dktX4_noise_0 : List UInt8 := dkwX4_noise_0 ++ dktX4_noise_1
theorem dksX4_noise_0 : cX4_noise.data.toList.drop 0 = dktX4_noise_0 := by decide +kernel
theorem dksX4_noise_1 : cX4_noise.data.toList.drop 24 = dktX4_noise_1 := dk_seg dksX4_noise_0 24 rfl rfl
theorem dksX4_noise_2 : cX4_noise.data.toList.drop 48 = dktX4_noise_2 := dk_seg dksX4_noise_1 24 rfl rfl
theorem dX4_noise_0 : decode cX4_noise 0 = .ok (.aload_n 0, 1) := dk_42 (dk_at dksX4_noise_0 0 rfl rfl)
theorem dX4_noise_1 : decode cX4_noise 1 = .ok (.aload_n 0, 1) := dk_42 (dk_at dksX4_noise_0 1 rfl rfl)
theorem dX4_noise_2 : decode cX4_noise 2 = .ok (.iload_n 1, 1) := dk_27 (dk_at dksX4_noise_0 2 rfl rfl)
theorem dX4_noise_3 : decode cX4_noise 3 = .ok (.invokevirtual 129, 3) := dk_182 0 129 (dk_at dksX4_noise_0 3 rfl rfl)
theorem dX4_noise_6 : decode cX4_noise 6 = .ok (.ifCond .ne 7, 3) := dk_154 0 7 (dk_at dksX4_noise_0 6 rfl rfl)
theorem dX4_noise_9 : decode cX4_noise 9 = .ok (.iconst 1, 1) := dk_4 (dk_at dksX4_noise_0 9 rfl rfl)
theorem dX4_noise_10 : decode cX4_noise 10 = .ok (.goto 18, 3) := dk_167 0 18 (dk_at dksX4_noise_0 10 rfl rfl)
theorem dX4_noise_13 : decode cX4_noise 13 = .ok (.iload_n 2, 1) := dk_28 (dk_at dksX4_noise_0 13 rfl rfl)
theorem dX4_noise_14 : decode cX4_noise 14 = .ok (.iconst 0, 1) := dk_3 (dk_at dksX4_noise_0 14 rfl rfl)
theorem dX4_noise_15 : decode cX4_noise 15 = .ok (.bipush 20, 2) := dk_16 20 (dk_at dksX4_noise_0 15 rfl rfl)
theorem dX4_noise_17 : decode cX4_noise 17 = .ok (.invokestatic 87, 3) := dk_184 0 87 (dk_at dksX4_noise_0 17 rfl rfl)
theorem dX4_noise_20 : decode cX4_noise 20 = .ok (.ifCond .ne 7, 3) := dk_154 0 7 (dk_at dksX4_noise_0 20 rfl rfl)
theorem dX4_noise_23 : decode cX4_noise 23 = .ok (.iconst 2, 1) := dk_5 (dk_at dksX4_noise_0 23 rfl rfl)
theorem dX4_noise_24 : decode cX4_noise 24 = .ok (.goto 4, 3) := dk_167 0 4 (dk_at dksX4_noise_1 0 rfl rfl)
theorem dX4_noise_27 : decode cX4_noise 27 = .ok (.iconst 0, 1) := dk_3 (dk_at dksX4_noise_1 3 rfl rfl)
theorem dX4_noise_28 : decode cX4_noise 28 = .ok (.putfield 69, 3) := dk_181 0 69 (dk_at dksX4_noise_1 4 rfl rfl)
theorem dX4_noise_31 : decode cX4_noise 31 = .ok (.aload_n 0, 1) := dk_42 (dk_at dksX4_noise_1 7 rfl rfl)
theorem dX4_noise_32 : decode cX4_noise 32 = .ok (.getfield 69, 3) := dk_180 0 69 (dk_at dksX4_noise_1 8 rfl rfl)
theorem dX4_noise_35 : decode cX4_noise 35 = .ok (.ifCond .le 7, 3) := dk_158 0 7 (dk_at dksX4_noise_1 11 rfl rfl)
theorem dX4_noise_38 : decode cX4_noise 38 = .ok (.iconst 0, 1) := dk_3 (dk_at dksX4_noise_1 14 rfl rfl)
theorem dX4_noise_39 : decode cX4_noise 39 = .ok (.goto 9, 3) := dk_167 0 9 (dk_at dksX4_noise_1 15 rfl rfl)
theorem dX4_noise_42 : decode cX4_noise 42 = .ok (.aload_n 0, 1) := dk_42 (dk_at dksX4_noise_1 18 rfl rfl)
theorem dX4_noise_43 : decode cX4_noise 43 = .ok (.iload_n 1, 1) := dk_27 (dk_at dksX4_noise_1 19 rfl rfl)
theorem dX4_noise_44 : decode cX4_noise 44 = .ok (.iload_n 2, 1) := dk_28 (dk_at dksX4_noise_1 20 rfl rfl)
theorem dX4_noise_45 : decode cX4_noise 45 = .ok (.invokevirtual 181, 3) := dk_182 0 181 (dk_at dksX4_noise_1 21 rfl rfl)
theorem dX4_noise_48 : decode cX4_noise 48 = .ok (.ireturn, 1) := dk_172 (dk_at dksX4_noise_2 0 rfl rfl)
abbrev cX4_loud : ByteArray := prog_21_method_49_code
def yX4_loud : MethodName := ⟨RX4, "loud", "(II)I"⟩
def dkwX4_loud_1 : List UInt8 := [182, 0, 174, 104, 96, 172]
abbrev dktX4_loud_1 : List UInt8 := dkwX4_loud_1 ++ []
def dkwX4_loud_0 : List UInt8 := [28, 42, 27, 3, 182, 0, 101, 100, 184, 0, 105, 7, 108, 42, 27, 5, 182, 0, 101, 6, 108, 96, 5, 42]
abbrev dktX4_loud_0 : List UInt8 := dkwX4_loud_0 ++ dktX4_loud_1
theorem dksX4_loud_0 : cX4_loud.data.toList.drop 0 = dktX4_loud_0 := by decide +kernel
theorem dksX4_loud_1 : cX4_loud.data.toList.drop 24 = dktX4_loud_1 := dk_seg dksX4_loud_0 24 rfl rfl
theorem dX4_loud_0 : decode cX4_loud 0 = .ok (.iload_n 2, 1) := dk_28 (dk_at dksX4_loud_0 0 rfl rfl)
theorem dX4_loud_1 : decode cX4_loud 1 = .ok (.aload_n 0, 1) := dk_42 (dk_at dksX4_loud_0 1 rfl rfl)
theorem dX4_loud_2 : decode cX4_loud 2 = .ok (.iload_n 1, 1) := dk_27 (dk_at dksX4_loud_0 2 rfl rfl)
theorem dX4_loud_3 : decode cX4_loud 3 = .ok (.iconst 0, 1) := dk_3 (dk_at dksX4_loud_0 3 rfl rfl)
theorem dX4_loud_4 : decode cX4_loud 4 = .ok (.invokevirtual 101, 3) := dk_182 0 101 (dk_at dksX4_loud_0 4 rfl rfl)
theorem dX4_loud_7 : decode cX4_loud 7 = .ok (.isub, 1) := dk_100 (dk_at dksX4_loud_0 7 rfl rfl)
theorem dX4_loud_8 : decode cX4_loud 8 = .ok (.invokestatic 105, 3) := dk_184 0 105 (dk_at dksX4_loud_0 8 rfl rfl)
theorem dX4_loud_11 : decode cX4_loud 11 = .ok (.iconst 4, 1) := dk_7 (dk_at dksX4_loud_0 11 rfl rfl)
theorem dX4_loud_12 : decode cX4_loud 12 = .ok (.idiv, 1) := dk_108 (dk_at dksX4_loud_0 12 rfl rfl)
theorem dX4_loud_13 : decode cX4_loud 13 = .ok (.aload_n 0, 1) := dk_42 (dk_at dksX4_loud_0 13 rfl rfl)
theorem dX4_loud_14 : decode cX4_loud 14 = .ok (.iload_n 1, 1) := dk_27 (dk_at dksX4_loud_0 14 rfl rfl)
theorem dX4_loud_15 : decode cX4_loud 15 = .ok (.iconst 2, 1) := dk_5 (dk_at dksX4_loud_0 15 rfl rfl)
theorem dX4_loud_16 : decode cX4_loud 16 = .ok (.invokevirtual 101, 3) := dk_182 0 101 (dk_at dksX4_loud_0 16 rfl rfl)
theorem dX4_loud_19 : decode cX4_loud 19 = .ok (.iconst 3, 1) := dk_6 (dk_at dksX4_loud_0 19 rfl rfl)
theorem dX4_loud_20 : decode cX4_loud 20 = .ok (.idiv, 1) := dk_108 (dk_at dksX4_loud_0 20 rfl rfl)
theorem dX4_loud_21 : decode cX4_loud 21 = .ok (.iadd, 1) := dk_96 (dk_at dksX4_loud_0 21 rfl rfl)
theorem dX4_loud_22 : decode cX4_loud 22 = .ok (.iconst 2, 1) := dk_5 (dk_at dksX4_loud_0 22 rfl rfl)
theorem dX4_loud_23 : decode cX4_loud 23 = .ok (.aload_n 0, 1) := dk_42 (dk_at dksX4_loud_0 23 rfl rfl)
theorem dX4_loud_24 : decode cX4_loud 24 = .ok (.invokevirtual 174, 3) := dk_182 0 174 (dk_at dksX4_loud_1 0 rfl rfl)
theorem dX4_loud_27 : decode cX4_loud 27 = .ok (.imul, 1) := dk_104 (dk_at dksX4_loud_1 3 rfl rfl)
theorem dX4_loud_28 : decode cX4_loud 28 = .ok (.iadd, 1) := dk_96 (dk_at dksX4_loud_1 4 rfl rfl)
theorem dX4_loud_29 : decode cX4_loud 29 = .ok (.ireturn, 1) := dk_172 (dk_at dksX4_loud_1 5 rfl rfl)
abbrev cX4_fly : ByteArray := prog_21_method_55_code
def yX4_fly : MethodName := ⟨RX4, "fly", "(II)I"⟩
def dkwX4_fly_0 : List UInt8 := [42, 182, 0, 116, 42, 42, 27, 28, 182, 0, 194, 182, 0, 122, 172]
abbrev dktX4_fly_0 : List UInt8 := dkwX4_fly_0 ++ []
theorem dksX4_fly_0 : cX4_fly.data.toList.drop 0 = dktX4_fly_0 := by decide +kernel
theorem dX4_fly_0 : decode cX4_fly 0 = .ok (.aload_n 0, 1) := dk_42 (dk_at dksX4_fly_0 0 rfl rfl)
theorem dX4_fly_1 : decode cX4_fly 1 = .ok (.invokevirtual 116, 3) := dk_182 0 116 (dk_at dksX4_fly_0 1 rfl rfl)
theorem dX4_fly_4 : decode cX4_fly 4 = .ok (.aload_n 0, 1) := dk_42 (dk_at dksX4_fly_0 4 rfl rfl)
theorem dX4_fly_5 : decode cX4_fly 5 = .ok (.aload_n 0, 1) := dk_42 (dk_at dksX4_fly_0 5 rfl rfl)
theorem dX4_fly_6 : decode cX4_fly 6 = .ok (.iload_n 1, 1) := dk_27 (dk_at dksX4_fly_0 6 rfl rfl)
theorem dX4_fly_7 : decode cX4_fly 7 = .ok (.iload_n 2, 1) := dk_28 (dk_at dksX4_fly_0 7 rfl rfl)
theorem dX4_fly_8 : decode cX4_fly 8 = .ok (.invokevirtual 194, 3) := dk_182 0 194 (dk_at dksX4_fly_0 8 rfl rfl)
theorem dX4_fly_11 : decode cX4_fly 11 = .ok (.invokevirtual 122, 3) := dk_182 0 122 (dk_at dksX4_fly_0 11 rfl rfl)
theorem dX4_fly_14 : decode cX4_fly 14 = .ok (.ireturn, 1) := dk_172 (dk_at dksX4_fly_0 14 rfl rfl)
abbrev cX4_doFly : ByteArray := prog_21_method_54_code
def yX4_doFly : MethodName := ⟨RX4, "doFly", "(II)I"⟩
def dkwX4_doFly_2 : List UInt8 := [182, 0, 191, 172]
abbrev dktX4_doFly_2 : List UInt8 := dkwX4_doFly_2 ++ []
def dkwX4_doFly_1 : List UInt8 := [42, 5, 182, 0, 119, 172, 42, 27, 6, 182, 0, 187, 153, 0, 7, 3, 167, 0, 9, 42, 27, 28]
abbrev dktX4_doFly_1 : List UInt8 := dkwX4_doFly_1 ++ dktX4_doFly_2
def dkwX4_doFly_0 : List UInt8 := [42, 27, 182, 0, 129, 154, 0, 9, 42, 4, 182, 0, 119, 172, 28, 3, 16, 20, 184, 0, 87, 154, 0, 9]
abbrev dktX4_doFly_0 : List UInt8 := dkwX4_doFly_0 ++ dktX4_doFly_1
theorem dksX4_doFly_0 : cX4_doFly.data.toList.drop 0 = dktX4_doFly_0 := by decide +kernel
theorem dksX4_doFly_1 : cX4_doFly.data.toList.drop 24 = dktX4_doFly_1 := dk_seg dksX4_doFly_0 24 rfl rfl
theorem dksX4_doFly_2 : cX4_doFly.data.toList.drop 46 = dktX4_doFly_2 := dk_seg dksX4_doFly_1 22 rfl rfl
theorem dX4_doFly_0 : decode cX4_doFly 0 = .ok (.aload_n 0, 1) := dk_42 (dk_at dksX4_doFly_0 0 rfl rfl)
theorem dX4_doFly_1 : decode cX4_doFly 1 = .ok (.iload_n 1, 1) := dk_27 (dk_at dksX4_doFly_0 1 rfl rfl)
theorem dX4_doFly_2 : decode cX4_doFly 2 = .ok (.invokevirtual 129, 3) := dk_182 0 129 (dk_at dksX4_doFly_0 2 rfl rfl)
theorem dX4_doFly_5 : decode cX4_doFly 5 = .ok (.ifCond .ne 9, 3) := dk_154 0 9 (dk_at dksX4_doFly_0 5 rfl rfl)
theorem dX4_doFly_8 : decode cX4_doFly 8 = .ok (.aload_n 0, 1) := dk_42 (dk_at dksX4_doFly_0 8 rfl rfl)
theorem dX4_doFly_9 : decode cX4_doFly 9 = .ok (.iconst 1, 1) := dk_4 (dk_at dksX4_doFly_0 9 rfl rfl)
theorem dX4_doFly_10 : decode cX4_doFly 10 = .ok (.invokevirtual 119, 3) := dk_182 0 119 (dk_at dksX4_doFly_0 10 rfl rfl)
theorem dX4_doFly_13 : decode cX4_doFly 13 = .ok (.ireturn, 1) := dk_172 (dk_at dksX4_doFly_0 13 rfl rfl)
theorem dX4_doFly_14 : decode cX4_doFly 14 = .ok (.iload_n 2, 1) := dk_28 (dk_at dksX4_doFly_0 14 rfl rfl)
theorem dX4_doFly_15 : decode cX4_doFly 15 = .ok (.iconst 0, 1) := dk_3 (dk_at dksX4_doFly_0 15 rfl rfl)
theorem dX4_doFly_16 : decode cX4_doFly 16 = .ok (.bipush 20, 2) := dk_16 20 (dk_at dksX4_doFly_0 16 rfl rfl)
theorem dX4_doFly_18 : decode cX4_doFly 18 = .ok (.invokestatic 87, 3) := dk_184 0 87 (dk_at dksX4_doFly_0 18 rfl rfl)
theorem dX4_doFly_21 : decode cX4_doFly 21 = .ok (.ifCond .ne 9, 3) := dk_154 0 9 (dk_at dksX4_doFly_0 21 rfl rfl)
theorem dX4_doFly_24 : decode cX4_doFly 24 = .ok (.aload_n 0, 1) := dk_42 (dk_at dksX4_doFly_1 0 rfl rfl)
theorem dX4_doFly_25 : decode cX4_doFly 25 = .ok (.iconst 2, 1) := dk_5 (dk_at dksX4_doFly_1 1 rfl rfl)
theorem dX4_doFly_26 : decode cX4_doFly 26 = .ok (.invokevirtual 119, 3) := dk_182 0 119 (dk_at dksX4_doFly_1 2 rfl rfl)
theorem dX4_doFly_29 : decode cX4_doFly 29 = .ok (.ireturn, 1) := dk_172 (dk_at dksX4_doFly_1 5 rfl rfl)
theorem dX4_doFly_30 : decode cX4_doFly 30 = .ok (.aload_n 0, 1) := dk_42 (dk_at dksX4_doFly_1 6 rfl rfl)
theorem dX4_doFly_31 : decode cX4_doFly 31 = .ok (.iload_n 1, 1) := dk_27 (dk_at dksX4_doFly_1 7 rfl rfl)
theorem dX4_doFly_32 : decode cX4_doFly 32 = .ok (.iconst 3, 1) := dk_6 (dk_at dksX4_doFly_1 8 rfl rfl)
theorem dX4_doFly_33 : decode cX4_doFly 33 = .ok (.invokevirtual 187, 3) := dk_182 0 187 (dk_at dksX4_doFly_1 9 rfl rfl)
theorem dX4_doFly_36 : decode cX4_doFly 36 = .ok (.ifCond .eq 7, 3) := dk_153 0 7 (dk_at dksX4_doFly_1 12 rfl rfl)
theorem dX4_doFly_39 : decode cX4_doFly 39 = .ok (.iconst 0, 1) := dk_3 (dk_at dksX4_doFly_1 15 rfl rfl)
theorem dX4_doFly_40 : decode cX4_doFly 40 = .ok (.goto 9, 3) := dk_167 0 9 (dk_at dksX4_doFly_1 16 rfl rfl)
theorem dX4_doFly_43 : decode cX4_doFly 43 = .ok (.aload_n 0, 1) := dk_42 (dk_at dksX4_doFly_1 19 rfl rfl)
theorem dX4_doFly_44 : decode cX4_doFly 44 = .ok (.iload_n 1, 1) := dk_27 (dk_at dksX4_doFly_1 20 rfl rfl)
theorem dX4_doFly_45 : decode cX4_doFly 45 = .ok (.iload_n 2, 1) := dk_28 (dk_at dksX4_doFly_1 21 rfl rfl)
theorem dX4_doFly_46 : decode cX4_doFly 46 = .ok (.invokevirtual 191, 3) := dk_182 0 191 (dk_at dksX4_doFly_2 0 rfl rfl)
theorem dX4_doFly_49 : decode cX4_doFly 49 = .ok (.ireturn, 1) := dk_172 (dk_at dksX4_doFly_2 3 rfl rfl)
abbrev cX4_isRefused : ByteArray := prog_21_method_52_code
def yX4_isRefused : MethodName := ⟨RX4, "isRefused", "(II)Z"⟩
def dkwX4_isRefused_2 : List UInt8 := [182, 0, 139, 54, 4, 29, 158, 0, 7, 4, 167, 0, 4, 3, 172]
abbrev dktX4_isRefused_2 : List UInt8 := dkwX4_isRefused_2 ++ []
def dkwX4_isRefused_1 : List UInt8 := [167, 0, 23, 29, 5, 160, 0, 11, 42, 27, 182, 0, 143, 167, 0, 10, 42, 27, 6, 112, 182, 0, 171]
abbrev dktX4_isRefused_1 : List UInt8 := dkwX4_isRefused_1 ++ dktX4_isRefused_2
def dkwX4_isRefused_0 : List UInt8 := [42, 27, 182, 0, 184, 62, 29, 158, 0, 44, 42, 28, 29, 29, 6, 160, 0, 11, 42, 27, 182, 0, 133]
abbrev dktX4_isRefused_0 : List UInt8 := dkwX4_isRefused_0 ++ dktX4_isRefused_1
theorem dksX4_isRefused_0 : cX4_isRefused.data.toList.drop 0 = dktX4_isRefused_0 := by decide +kernel
theorem dksX4_isRefused_1 : cX4_isRefused.data.toList.drop 23 = dktX4_isRefused_1 := dk_seg dksX4_isRefused_0 23 rfl rfl
theorem dksX4_isRefused_2 : cX4_isRefused.data.toList.drop 46 = dktX4_isRefused_2 := dk_seg dksX4_isRefused_1 23 rfl rfl
theorem dX4_isRefused_0 : decode cX4_isRefused 0 = .ok (.aload_n 0, 1) := dk_42 (dk_at dksX4_isRefused_0 0 rfl rfl)
theorem dX4_isRefused_1 : decode cX4_isRefused 1 = .ok (.iload_n 1, 1) := dk_27 (dk_at dksX4_isRefused_0 1 rfl rfl)
theorem dX4_isRefused_2 : decode cX4_isRefused 2 = .ok (.invokevirtual 184, 3) := dk_182 0 184 (dk_at dksX4_isRefused_0 2 rfl rfl)
theorem dX4_isRefused_5 : decode cX4_isRefused 5 = .ok (.istore_n 3, 1) := dk_62 (dk_at dksX4_isRefused_0 5 rfl rfl)
theorem dX4_isRefused_6 : decode cX4_isRefused 6 = .ok (.iload_n 3, 1) := dk_29 (dk_at dksX4_isRefused_0 6 rfl rfl)
theorem dX4_isRefused_7 : decode cX4_isRefused 7 = .ok (.ifCond .le 44, 3) := dk_158 0 44 (dk_at dksX4_isRefused_0 7 rfl rfl)
theorem dX4_isRefused_10 : decode cX4_isRefused 10 = .ok (.aload_n 0, 1) := dk_42 (dk_at dksX4_isRefused_0 10 rfl rfl)
theorem dX4_isRefused_11 : decode cX4_isRefused 11 = .ok (.iload_n 2, 1) := dk_28 (dk_at dksX4_isRefused_0 11 rfl rfl)
theorem dX4_isRefused_12 : decode cX4_isRefused 12 = .ok (.iload_n 3, 1) := dk_29 (dk_at dksX4_isRefused_0 12 rfl rfl)
theorem dX4_isRefused_13 : decode cX4_isRefused 13 = .ok (.iload_n 3, 1) := dk_29 (dk_at dksX4_isRefused_0 13 rfl rfl)
theorem dX4_isRefused_14 : decode cX4_isRefused 14 = .ok (.iconst 3, 1) := dk_6 (dk_at dksX4_isRefused_0 14 rfl rfl)
theorem dX4_isRefused_15 : decode cX4_isRefused 15 = .ok (.if_icmp .ne 11, 3) := dk_160 0 11 (dk_at dksX4_isRefused_0 15 rfl rfl)
theorem dX4_isRefused_18 : decode cX4_isRefused 18 = .ok (.aload_n 0, 1) := dk_42 (dk_at dksX4_isRefused_0 18 rfl rfl)
theorem dX4_isRefused_19 : decode cX4_isRefused 19 = .ok (.iload_n 1, 1) := dk_27 (dk_at dksX4_isRefused_0 19 rfl rfl)
theorem dX4_isRefused_20 : decode cX4_isRefused 20 = .ok (.invokevirtual 133, 3) := dk_182 0 133 (dk_at dksX4_isRefused_0 20 rfl rfl)
theorem dX4_isRefused_23 : decode cX4_isRefused 23 = .ok (.goto 23, 3) := dk_167 0 23 (dk_at dksX4_isRefused_1 0 rfl rfl)
theorem dX4_isRefused_26 : decode cX4_isRefused 26 = .ok (.iload_n 3, 1) := dk_29 (dk_at dksX4_isRefused_1 3 rfl rfl)
theorem dX4_isRefused_27 : decode cX4_isRefused 27 = .ok (.iconst 2, 1) := dk_5 (dk_at dksX4_isRefused_1 4 rfl rfl)
theorem dX4_isRefused_28 : decode cX4_isRefused 28 = .ok (.if_icmp .ne 11, 3) := dk_160 0 11 (dk_at dksX4_isRefused_1 5 rfl rfl)
theorem dX4_isRefused_31 : decode cX4_isRefused 31 = .ok (.aload_n 0, 1) := dk_42 (dk_at dksX4_isRefused_1 8 rfl rfl)
theorem dX4_isRefused_32 : decode cX4_isRefused 32 = .ok (.iload_n 1, 1) := dk_27 (dk_at dksX4_isRefused_1 9 rfl rfl)
theorem dX4_isRefused_33 : decode cX4_isRefused 33 = .ok (.invokevirtual 143, 3) := dk_182 0 143 (dk_at dksX4_isRefused_1 10 rfl rfl)
theorem dX4_isRefused_36 : decode cX4_isRefused 36 = .ok (.goto 10, 3) := dk_167 0 10 (dk_at dksX4_isRefused_1 13 rfl rfl)
theorem dX4_isRefused_39 : decode cX4_isRefused 39 = .ok (.aload_n 0, 1) := dk_42 (dk_at dksX4_isRefused_1 16 rfl rfl)
theorem dX4_isRefused_40 : decode cX4_isRefused 40 = .ok (.iload_n 1, 1) := dk_27 (dk_at dksX4_isRefused_1 17 rfl rfl)
theorem dX4_isRefused_41 : decode cX4_isRefused 41 = .ok (.iconst 3, 1) := dk_6 (dk_at dksX4_isRefused_1 18 rfl rfl)
theorem dX4_isRefused_42 : decode cX4_isRefused 42 = .ok (.irem, 1) := dk_112 (dk_at dksX4_isRefused_1 19 rfl rfl)
theorem dX4_isRefused_43 : decode cX4_isRefused 43 = .ok (.invokevirtual 171, 3) := dk_182 0 171 (dk_at dksX4_isRefused_1 20 rfl rfl)
theorem dX4_isRefused_46 : decode cX4_isRefused 46 = .ok (.invokevirtual 139, 3) := dk_182 0 139 (dk_at dksX4_isRefused_2 0 rfl rfl)
theorem dX4_isRefused_49 : decode cX4_isRefused 49 = .ok (.istore 4, 2) := dk_54 4 (dk_at dksX4_isRefused_2 3 rfl rfl)
theorem dX4_isRefused_51 : decode cX4_isRefused 51 = .ok (.iload_n 3, 1) := dk_29 (dk_at dksX4_isRefused_2 5 rfl rfl)
theorem dX4_isRefused_52 : decode cX4_isRefused 52 = .ok (.ifCond .le 7, 3) := dk_158 0 7 (dk_at dksX4_isRefused_2 6 rfl rfl)
theorem dX4_isRefused_55 : decode cX4_isRefused 55 = .ok (.iconst 1, 1) := dk_4 (dk_at dksX4_isRefused_2 9 rfl rfl)
theorem dX4_isRefused_56 : decode cX4_isRefused 56 = .ok (.goto 4, 3) := dk_167 0 4 (dk_at dksX4_isRefused_2 10 rfl rfl)
theorem dX4_isRefused_59 : decode cX4_isRefused 59 = .ok (.iconst 0, 1) := dk_3 (dk_at dksX4_isRefused_2 13 rfl rfl)
theorem dX4_isRefused_60 : decode cX4_isRefused 60 = .ok (.ireturn, 1) := dk_172 (dk_at dksX4_isRefused_2 14 rfl rfl)
abbrev cX4_whyNot : ByteArray := prog_21_method_51_code
def yX4_whyNot : MethodName := ⟨RX4, "whyNot", "(I)I"⟩
def dkwX4_whyNot_2 : List UInt8 := [167, 0, 4, 3, 172]
abbrev dktX4_whyNot_2 : List UInt8 := dkwX4_whyNot_2 ++ []
def dkwX4_whyNot_1 : List UInt8 := [158, 0, 7, 5, 167, 0, 23, 42, 27, 6, 112, 182, 0, 171, 42, 27, 182, 0, 133, 162, 0, 7, 7]
abbrev dktX4_whyNot_1 : List UInt8 := dkwX4_whyNot_1 ++ dktX4_whyNot_2
def dkwX4_whyNot_0 : List UInt8 := [42, 27, 182, 0, 133, 42, 180, 0, 9, 8, 46, 164, 0, 7, 6, 167, 0, 35, 42, 27, 182, 0, 143]
abbrev dktX4_whyNot_0 : List UInt8 := dkwX4_whyNot_0 ++ dktX4_whyNot_1
theorem dksX4_whyNot_0 : cX4_whyNot.data.toList.drop 0 = dktX4_whyNot_0 := by decide +kernel
theorem dksX4_whyNot_1 : cX4_whyNot.data.toList.drop 23 = dktX4_whyNot_1 := dk_seg dksX4_whyNot_0 23 rfl rfl
theorem dksX4_whyNot_2 : cX4_whyNot.data.toList.drop 46 = dktX4_whyNot_2 := dk_seg dksX4_whyNot_1 23 rfl rfl
theorem dX4_whyNot_0 : decode cX4_whyNot 0 = .ok (.aload_n 0, 1) := dk_42 (dk_at dksX4_whyNot_0 0 rfl rfl)
theorem dX4_whyNot_1 : decode cX4_whyNot 1 = .ok (.iload_n 1, 1) := dk_27 (dk_at dksX4_whyNot_0 1 rfl rfl)
theorem dX4_whyNot_2 : decode cX4_whyNot 2 = .ok (.invokevirtual 133, 3) := dk_182 0 133 (dk_at dksX4_whyNot_0 2 rfl rfl)
theorem dX4_whyNot_5 : decode cX4_whyNot 5 = .ok (.aload_n 0, 1) := dk_42 (dk_at dksX4_whyNot_0 5 rfl rfl)
theorem dX4_whyNot_6 : decode cX4_whyNot 6 = .ok (.getfield 9, 3) := dk_180 0 9 (dk_at dksX4_whyNot_0 6 rfl rfl)
theorem dX4_whyNot_9 : decode cX4_whyNot 9 = .ok (.iconst 5, 1) := dk_8 (dk_at dksX4_whyNot_0 9 rfl rfl)
theorem dX4_whyNot_10 : decode cX4_whyNot 10 = .ok (.iaload, 1) := dk_46 (dk_at dksX4_whyNot_0 10 rfl rfl)
theorem dX4_whyNot_11 : decode cX4_whyNot 11 = .ok (.if_icmp .le 7, 3) := dk_164 0 7 (dk_at dksX4_whyNot_0 11 rfl rfl)
theorem dX4_whyNot_14 : decode cX4_whyNot 14 = .ok (.iconst 3, 1) := dk_6 (dk_at dksX4_whyNot_0 14 rfl rfl)
theorem dX4_whyNot_15 : decode cX4_whyNot 15 = .ok (.goto 35, 3) := dk_167 0 35 (dk_at dksX4_whyNot_0 15 rfl rfl)
theorem dX4_whyNot_18 : decode cX4_whyNot 18 = .ok (.aload_n 0, 1) := dk_42 (dk_at dksX4_whyNot_0 18 rfl rfl)
theorem dX4_whyNot_19 : decode cX4_whyNot 19 = .ok (.iload_n 1, 1) := dk_27 (dk_at dksX4_whyNot_0 19 rfl rfl)
theorem dX4_whyNot_20 : decode cX4_whyNot 20 = .ok (.invokevirtual 143, 3) := dk_182 0 143 (dk_at dksX4_whyNot_0 20 rfl rfl)
theorem dX4_whyNot_23 : decode cX4_whyNot 23 = .ok (.ifCond .le 7, 3) := dk_158 0 7 (dk_at dksX4_whyNot_1 0 rfl rfl)
theorem dX4_whyNot_26 : decode cX4_whyNot 26 = .ok (.iconst 2, 1) := dk_5 (dk_at dksX4_whyNot_1 3 rfl rfl)
theorem dX4_whyNot_27 : decode cX4_whyNot 27 = .ok (.goto 23, 3) := dk_167 0 23 (dk_at dksX4_whyNot_1 4 rfl rfl)
theorem dX4_whyNot_30 : decode cX4_whyNot 30 = .ok (.aload_n 0, 1) := dk_42 (dk_at dksX4_whyNot_1 7 rfl rfl)
theorem dX4_whyNot_31 : decode cX4_whyNot 31 = .ok (.iload_n 1, 1) := dk_27 (dk_at dksX4_whyNot_1 8 rfl rfl)
theorem dX4_whyNot_32 : decode cX4_whyNot 32 = .ok (.iconst 3, 1) := dk_6 (dk_at dksX4_whyNot_1 9 rfl rfl)
theorem dX4_whyNot_33 : decode cX4_whyNot 33 = .ok (.irem, 1) := dk_112 (dk_at dksX4_whyNot_1 10 rfl rfl)
theorem dX4_whyNot_34 : decode cX4_whyNot 34 = .ok (.invokevirtual 171, 3) := dk_182 0 171 (dk_at dksX4_whyNot_1 11 rfl rfl)
theorem dX4_whyNot_37 : decode cX4_whyNot 37 = .ok (.aload_n 0, 1) := dk_42 (dk_at dksX4_whyNot_1 14 rfl rfl)
theorem dX4_whyNot_38 : decode cX4_whyNot 38 = .ok (.iload_n 1, 1) := dk_27 (dk_at dksX4_whyNot_1 15 rfl rfl)
theorem dX4_whyNot_39 : decode cX4_whyNot 39 = .ok (.invokevirtual 133, 3) := dk_182 0 133 (dk_at dksX4_whyNot_1 16 rfl rfl)
theorem dX4_whyNot_42 : decode cX4_whyNot 42 = .ok (.if_icmp .ge 7, 3) := dk_162 0 7 (dk_at dksX4_whyNot_1 19 rfl rfl)
theorem dX4_whyNot_45 : decode cX4_whyNot 45 = .ok (.iconst 4, 1) := dk_7 (dk_at dksX4_whyNot_1 22 rfl rfl)
theorem dX4_whyNot_46 : decode cX4_whyNot 46 = .ok (.goto 4, 3) := dk_167 0 4 (dk_at dksX4_whyNot_2 0 rfl rfl)
theorem dX4_whyNot_49 : decode cX4_whyNot 49 = .ok (.iconst 0, 1) := dk_3 (dk_at dksX4_whyNot_2 3 rfl rfl)
theorem dX4_whyNot_50 : decode cX4_whyNot 50 = .ok (.ireturn, 1) := dk_172 (dk_at dksX4_whyNot_2 4 rfl rfl)
abbrev cX4_flies : ByteArray := prog_21_method_53_code
def yX4_flies : MethodName := ⟨RX4, "flies", "(II)I"⟩
def dkwX4_flies_2 : List UInt8 := [92, 46, 21, 4, 96, 79, 42, 180, 0, 9, 16, 10, 92, 46, 4, 96, 79, 29, 172]
abbrev dktX4_flies_2 : List UInt8 := dkwX4_flies_2 ++ []
def dkwX4_flies_1 : List UInt8 := [182, 0, 125, 42, 27, 6, 42, 27, 6, 182, 0, 101, 21, 4, 96, 182, 0, 125, 42, 180, 0, 9, 16, 9]
abbrev dktX4_flies_1 : List UInt8 := dkwX4_flies_1 ++ dktX4_flies_2
def dkwX4_flies_0 : List UInt8 := [42, 27, 28, 182, 0, 181, 62, 28, 42, 27, 3, 182, 0, 101, 100, 184, 0, 105, 54, 4, 42, 27, 3, 28]
abbrev dktX4_flies_0 : List UInt8 := dkwX4_flies_0 ++ dktX4_flies_1
theorem dksX4_flies_0 : cX4_flies.data.toList.drop 0 = dktX4_flies_0 := by decide +kernel
theorem dksX4_flies_1 : cX4_flies.data.toList.drop 24 = dktX4_flies_1 := dk_seg dksX4_flies_0 24 rfl rfl
theorem dksX4_flies_2 : cX4_flies.data.toList.drop 48 = dktX4_flies_2 := dk_seg dksX4_flies_1 24 rfl rfl
theorem dX4_flies_0 : decode cX4_flies 0 = .ok (.aload_n 0, 1) := dk_42 (dk_at dksX4_flies_0 0 rfl rfl)
theorem dX4_flies_1 : decode cX4_flies 1 = .ok (.iload_n 1, 1) := dk_27 (dk_at dksX4_flies_0 1 rfl rfl)
theorem dX4_flies_2 : decode cX4_flies 2 = .ok (.iload_n 2, 1) := dk_28 (dk_at dksX4_flies_0 2 rfl rfl)
theorem dX4_flies_3 : decode cX4_flies 3 = .ok (.invokevirtual 181, 3) := dk_182 0 181 (dk_at dksX4_flies_0 3 rfl rfl)
theorem dX4_flies_6 : decode cX4_flies 6 = .ok (.istore_n 3, 1) := dk_62 (dk_at dksX4_flies_0 6 rfl rfl)
theorem dX4_flies_7 : decode cX4_flies 7 = .ok (.iload_n 2, 1) := dk_28 (dk_at dksX4_flies_0 7 rfl rfl)
theorem dX4_flies_8 : decode cX4_flies 8 = .ok (.aload_n 0, 1) := dk_42 (dk_at dksX4_flies_0 8 rfl rfl)
theorem dX4_flies_9 : decode cX4_flies 9 = .ok (.iload_n 1, 1) := dk_27 (dk_at dksX4_flies_0 9 rfl rfl)
theorem dX4_flies_10 : decode cX4_flies 10 = .ok (.iconst 0, 1) := dk_3 (dk_at dksX4_flies_0 10 rfl rfl)
theorem dX4_flies_11 : decode cX4_flies 11 = .ok (.invokevirtual 101, 3) := dk_182 0 101 (dk_at dksX4_flies_0 11 rfl rfl)
theorem dX4_flies_14 : decode cX4_flies 14 = .ok (.isub, 1) := dk_100 (dk_at dksX4_flies_0 14 rfl rfl)
theorem dX4_flies_15 : decode cX4_flies 15 = .ok (.invokestatic 105, 3) := dk_184 0 105 (dk_at dksX4_flies_0 15 rfl rfl)
theorem dX4_flies_18 : decode cX4_flies 18 = .ok (.istore 4, 2) := dk_54 4 (dk_at dksX4_flies_0 18 rfl rfl)
theorem dX4_flies_20 : decode cX4_flies 20 = .ok (.aload_n 0, 1) := dk_42 (dk_at dksX4_flies_0 20 rfl rfl)
theorem dX4_flies_21 : decode cX4_flies 21 = .ok (.iload_n 1, 1) := dk_27 (dk_at dksX4_flies_0 21 rfl rfl)
theorem dX4_flies_22 : decode cX4_flies 22 = .ok (.iconst 0, 1) := dk_3 (dk_at dksX4_flies_0 22 rfl rfl)
theorem dX4_flies_23 : decode cX4_flies 23 = .ok (.iload_n 2, 1) := dk_28 (dk_at dksX4_flies_0 23 rfl rfl)
theorem dX4_flies_24 : decode cX4_flies 24 = .ok (.invokevirtual 125, 3) := dk_182 0 125 (dk_at dksX4_flies_1 0 rfl rfl)
theorem dX4_flies_27 : decode cX4_flies 27 = .ok (.aload_n 0, 1) := dk_42 (dk_at dksX4_flies_1 3 rfl rfl)
theorem dX4_flies_28 : decode cX4_flies 28 = .ok (.iload_n 1, 1) := dk_27 (dk_at dksX4_flies_1 4 rfl rfl)
theorem dX4_flies_29 : decode cX4_flies 29 = .ok (.iconst 3, 1) := dk_6 (dk_at dksX4_flies_1 5 rfl rfl)
theorem dX4_flies_30 : decode cX4_flies 30 = .ok (.aload_n 0, 1) := dk_42 (dk_at dksX4_flies_1 6 rfl rfl)
theorem dX4_flies_31 : decode cX4_flies 31 = .ok (.iload_n 1, 1) := dk_27 (dk_at dksX4_flies_1 7 rfl rfl)
theorem dX4_flies_32 : decode cX4_flies 32 = .ok (.iconst 3, 1) := dk_6 (dk_at dksX4_flies_1 8 rfl rfl)
theorem dX4_flies_33 : decode cX4_flies 33 = .ok (.invokevirtual 101, 3) := dk_182 0 101 (dk_at dksX4_flies_1 9 rfl rfl)
theorem dX4_flies_36 : decode cX4_flies 36 = .ok (.iload 4, 2) := dk_21 4 (dk_at dksX4_flies_1 12 rfl rfl)
theorem dX4_flies_38 : decode cX4_flies 38 = .ok (.iadd, 1) := dk_96 (dk_at dksX4_flies_1 14 rfl rfl)
theorem dX4_flies_39 : decode cX4_flies 39 = .ok (.invokevirtual 125, 3) := dk_182 0 125 (dk_at dksX4_flies_1 15 rfl rfl)
theorem dX4_flies_42 : decode cX4_flies 42 = .ok (.aload_n 0, 1) := dk_42 (dk_at dksX4_flies_1 18 rfl rfl)
theorem dX4_flies_43 : decode cX4_flies 43 = .ok (.getfield 9, 3) := dk_180 0 9 (dk_at dksX4_flies_1 19 rfl rfl)
theorem dX4_flies_46 : decode cX4_flies 46 = .ok (.bipush 9, 2) := dk_16 9 (dk_at dksX4_flies_1 22 rfl rfl)
theorem dX4_flies_48 : decode cX4_flies 48 = .ok (.dup2, 1) := dk_92 (dk_at dksX4_flies_2 0 rfl rfl)
theorem dX4_flies_49 : decode cX4_flies 49 = .ok (.iaload, 1) := dk_46 (dk_at dksX4_flies_2 1 rfl rfl)
theorem dX4_flies_50 : decode cX4_flies 50 = .ok (.iload 4, 2) := dk_21 4 (dk_at dksX4_flies_2 2 rfl rfl)
theorem dX4_flies_52 : decode cX4_flies 52 = .ok (.iadd, 1) := dk_96 (dk_at dksX4_flies_2 4 rfl rfl)
theorem dX4_flies_53 : decode cX4_flies 53 = .ok (.iastore, 1) := dk_79 (dk_at dksX4_flies_2 5 rfl rfl)
theorem dX4_flies_54 : decode cX4_flies 54 = .ok (.aload_n 0, 1) := dk_42 (dk_at dksX4_flies_2 6 rfl rfl)
theorem dX4_flies_55 : decode cX4_flies 55 = .ok (.getfield 9, 3) := dk_180 0 9 (dk_at dksX4_flies_2 7 rfl rfl)
theorem dX4_flies_58 : decode cX4_flies 58 = .ok (.bipush 10, 2) := dk_16 10 (dk_at dksX4_flies_2 10 rfl rfl)
theorem dX4_flies_60 : decode cX4_flies 60 = .ok (.dup2, 1) := dk_92 (dk_at dksX4_flies_2 12 rfl rfl)
theorem dX4_flies_61 : decode cX4_flies 61 = .ok (.iaload, 1) := dk_46 (dk_at dksX4_flies_2 13 rfl rfl)
theorem dX4_flies_62 : decode cX4_flies 62 = .ok (.iconst 1, 1) := dk_4 (dk_at dksX4_flies_2 14 rfl rfl)
theorem dX4_flies_63 : decode cX4_flies 63 = .ok (.iadd, 1) := dk_96 (dk_at dksX4_flies_2 15 rfl rfl)
theorem dX4_flies_64 : decode cX4_flies 64 = .ok (.iastore, 1) := dk_79 (dk_at dksX4_flies_2 16 rfl rfl)
theorem dX4_flies_65 : decode cX4_flies 65 = .ok (.iload_n 3, 1) := dk_29 (dk_at dksX4_flies_2 17 rfl rfl)
theorem dX4_flies_66 : decode cX4_flies 66 = .ok (.ireturn, 1) := dk_172 (dk_at dksX4_flies_2 18 rfl rfl)
abbrev cX4_wouldRefuse : ByteArray := prog_21_method_56_code
def yX4_wouldRefuse : MethodName := ⟨RX4, "wouldRefuse", "(I)I"⟩
def dkwX4_wouldRefuse_1 : List UInt8 := [3, 167, 0, 8, 42, 27, 182, 0, 184, 172]
abbrev dktX4_wouldRefuse_1 : List UInt8 := dkwX4_wouldRefuse_1 ++ []
def dkwX4_wouldRefuse_0 : List UInt8 := [42, 42, 27, 182, 0, 129, 153, 0, 7, 3, 167, 0, 4, 4, 181, 0, 69, 42, 180, 0, 69, 158, 0, 7]
abbrev dktX4_wouldRefuse_0 : List UInt8 := dkwX4_wouldRefuse_0 ++ dktX4_wouldRefuse_1
theorem dksX4_wouldRefuse_0 : cX4_wouldRefuse.data.toList.drop 0 = dktX4_wouldRefuse_0 := by decide +kernel
theorem dksX4_wouldRefuse_1 : cX4_wouldRefuse.data.toList.drop 24 = dktX4_wouldRefuse_1 := dk_seg dksX4_wouldRefuse_0 24 rfl rfl
theorem dX4_wouldRefuse_0 : decode cX4_wouldRefuse 0 = .ok (.aload_n 0, 1) := dk_42 (dk_at dksX4_wouldRefuse_0 0 rfl rfl)
theorem dX4_wouldRefuse_1 : decode cX4_wouldRefuse 1 = .ok (.aload_n 0, 1) := dk_42 (dk_at dksX4_wouldRefuse_0 1 rfl rfl)
theorem dX4_wouldRefuse_2 : decode cX4_wouldRefuse 2 = .ok (.iload_n 1, 1) := dk_27 (dk_at dksX4_wouldRefuse_0 2 rfl rfl)
theorem dX4_wouldRefuse_3 : decode cX4_wouldRefuse 3 = .ok (.invokevirtual 129, 3) := dk_182 0 129 (dk_at dksX4_wouldRefuse_0 3 rfl rfl)
theorem dX4_wouldRefuse_6 : decode cX4_wouldRefuse 6 = .ok (.ifCond .eq 7, 3) := dk_153 0 7 (dk_at dksX4_wouldRefuse_0 6 rfl rfl)
theorem dX4_wouldRefuse_9 : decode cX4_wouldRefuse 9 = .ok (.iconst 0, 1) := dk_3 (dk_at dksX4_wouldRefuse_0 9 rfl rfl)
theorem dX4_wouldRefuse_10 : decode cX4_wouldRefuse 10 = .ok (.goto 4, 3) := dk_167 0 4 (dk_at dksX4_wouldRefuse_0 10 rfl rfl)
theorem dX4_wouldRefuse_13 : decode cX4_wouldRefuse 13 = .ok (.iconst 1, 1) := dk_4 (dk_at dksX4_wouldRefuse_0 13 rfl rfl)
theorem dX4_wouldRefuse_14 : decode cX4_wouldRefuse 14 = .ok (.putfield 69, 3) := dk_181 0 69 (dk_at dksX4_wouldRefuse_0 14 rfl rfl)
theorem dX4_wouldRefuse_17 : decode cX4_wouldRefuse 17 = .ok (.aload_n 0, 1) := dk_42 (dk_at dksX4_wouldRefuse_0 17 rfl rfl)
theorem dX4_wouldRefuse_18 : decode cX4_wouldRefuse 18 = .ok (.getfield 69, 3) := dk_180 0 69 (dk_at dksX4_wouldRefuse_0 18 rfl rfl)
theorem dX4_wouldRefuse_21 : decode cX4_wouldRefuse 21 = .ok (.ifCond .le 7, 3) := dk_158 0 7 (dk_at dksX4_wouldRefuse_0 21 rfl rfl)
theorem dX4_wouldRefuse_24 : decode cX4_wouldRefuse 24 = .ok (.iconst 0, 1) := dk_3 (dk_at dksX4_wouldRefuse_1 0 rfl rfl)
theorem dX4_wouldRefuse_25 : decode cX4_wouldRefuse 25 = .ok (.goto 8, 3) := dk_167 0 8 (dk_at dksX4_wouldRefuse_1 1 rfl rfl)
theorem dX4_wouldRefuse_28 : decode cX4_wouldRefuse 28 = .ok (.aload_n 0, 1) := dk_42 (dk_at dksX4_wouldRefuse_1 4 rfl rfl)
theorem dX4_wouldRefuse_29 : decode cX4_wouldRefuse 29 = .ok (.iload_n 1, 1) := dk_27 (dk_at dksX4_wouldRefuse_1 5 rfl rfl)
theorem dX4_wouldRefuse_30 : decode cX4_wouldRefuse 30 = .ok (.invokevirtual 184, 3) := dk_182 0 184 (dk_at dksX4_wouldRefuse_1 6 rfl rfl)
theorem dX4_wouldRefuse_33 : decode cX4_wouldRefuse 33 = .ok (.ireturn, 1) := dk_172 (dk_at dksX4_wouldRefuse_1 9 rfl rfl)
abbrev cX4_cue : ByteArray := prog_21_method_58_code
def yX4_cue : MethodName := ⟨RX4, "cue", "(IIII)I"⟩
def dkwX4_cue_10 : List UInt8 := [96, 182, 0, 122, 172]
abbrev dktX4_cue_10 : List UInt8 := dkwX4_cue_10 ++ []
def dkwX4_cue_9 : List UInt8 := [180, 0, 9, 21, 8, 6, 96, 21, 4, 79, 42, 180, 0, 9, 7, 92, 46, 4, 96, 79, 42, 21, 5, 4]
abbrev dktX4_cue_9 : List UInt8 := dkwX4_cue_9 ++ dktX4_cue_10
def dkwX4_cue_8 : List UInt8 := [79, 42, 180, 0, 9, 21, 8, 4, 96, 28, 79, 42, 180, 0, 9, 21, 8, 5, 96, 29, 79, 42]
abbrev dktX4_cue_8 : List UInt8 := dkwX4_cue_8 ++ dktX4_cue_9
def dkwX4_cue_7 : List UInt8 := [180, 0, 9, 21, 8, 7, 96, 7, 21, 5, 21, 6, 100, 104, 184, 0, 72, 42, 180, 0, 9, 21, 8, 27]
abbrev dktX4_cue_7 : List UInt8 := dkwX4_cue_7 ++ dktX4_cue_8
def dkwX4_cue_6 : List UInt8 := [42, 6, 182, 0, 119, 172, 16, 83, 7, 21, 6, 104, 96, 54, 8, 42, 180, 0, 9, 21, 8, 42]
abbrev dktX4_cue_6 : List UInt8 := dkwX4_cue_6 ++ dktX4_cue_7
def dkwX4_cue_5 : List UInt8 := [21, 4, 3, 16, 9, 184, 0, 87, 154, 0, 9, 42, 5, 182, 0, 119, 172, 21, 5, 16, 12, 160, 0, 9]
abbrev dktX4_cue_5 : List UInt8 := dkwX4_cue_5 ++ dktX4_cue_6
def dkwX4_cue_4 : List UInt8 := [154, 0, 34, 27, 3, 16, 99, 184, 0, 87, 153, 0, 24, 29, 3, 16, 20, 184, 0, 87, 153, 0, 14]
abbrev dktX4_cue_4 : List UInt8 := dkwX4_cue_4 ++ dktX4_cue_5
def dkwX4_cue_3 : List UInt8 := [182, 0, 197, 27, 160, 0, 7, 4, 167, 0, 4, 3, 54, 7, 132, 8, 1, 167, 255, 202, 21, 7]
abbrev dktX4_cue_3 : List UInt8 := dkwX4_cue_3 ++ dktX4_cue_4
def dkwX4_cue_2 : List UInt8 := [182, 0, 197, 27, 162, 0, 7, 4, 167, 0, 4, 3, 96, 54, 6, 21, 7, 154, 0, 14, 42, 21, 8, 3]
abbrev dktX4_cue_2 : List UInt8 := dkwX4_cue_2 ++ dktX4_cue_3
def dkwX4_cue_1 : List UInt8 := [54, 5, 3, 54, 6, 3, 54, 7, 3, 54, 8, 21, 8, 21, 5, 162, 0, 53, 21, 6, 42, 21, 8, 3]
abbrev dktX4_cue_1 : List UInt8 := dkwX4_cue_1 ++ dktX4_cue_2
def dkwX4_cue_0 : List UInt8 := [42, 182, 0, 116, 42, 28, 182, 0, 129, 154, 0, 9, 42, 4, 182, 0, 119, 172, 42, 180, 0, 9, 7, 46]
abbrev dktX4_cue_0 : List UInt8 := dkwX4_cue_0 ++ dktX4_cue_1
theorem dksX4_cue_0 : cX4_cue.data.toList.drop 0 = dktX4_cue_0 := by decide +kernel
theorem dksX4_cue_1 : cX4_cue.data.toList.drop 24 = dktX4_cue_1 := dk_seg dksX4_cue_0 24 rfl rfl
theorem dksX4_cue_2 : cX4_cue.data.toList.drop 48 = dktX4_cue_2 := dk_seg dksX4_cue_1 24 rfl rfl
theorem dksX4_cue_3 : cX4_cue.data.toList.drop 72 = dktX4_cue_3 := dk_seg dksX4_cue_2 24 rfl rfl
theorem dksX4_cue_4 : cX4_cue.data.toList.drop 94 = dktX4_cue_4 := dk_seg dksX4_cue_3 22 rfl rfl
theorem dksX4_cue_5 : cX4_cue.data.toList.drop 117 = dktX4_cue_5 := dk_seg dksX4_cue_4 23 rfl rfl
theorem dksX4_cue_6 : cX4_cue.data.toList.drop 141 = dktX4_cue_6 := dk_seg dksX4_cue_5 24 rfl rfl
theorem dksX4_cue_7 : cX4_cue.data.toList.drop 163 = dktX4_cue_7 := dk_seg dksX4_cue_6 22 rfl rfl
theorem dksX4_cue_8 : cX4_cue.data.toList.drop 187 = dktX4_cue_8 := dk_seg dksX4_cue_7 24 rfl rfl
theorem dksX4_cue_9 : cX4_cue.data.toList.drop 209 = dktX4_cue_9 := dk_seg dksX4_cue_8 22 rfl rfl
theorem dksX4_cue_10 : cX4_cue.data.toList.drop 233 = dktX4_cue_10 := dk_seg dksX4_cue_9 24 rfl rfl
theorem dX4_cue_0 : decode cX4_cue 0 = .ok (.aload_n 0, 1) := dk_42 (dk_at dksX4_cue_0 0 rfl rfl)
theorem dX4_cue_1 : decode cX4_cue 1 = .ok (.invokevirtual 116, 3) := dk_182 0 116 (dk_at dksX4_cue_0 1 rfl rfl)
theorem dX4_cue_4 : decode cX4_cue 4 = .ok (.aload_n 0, 1) := dk_42 (dk_at dksX4_cue_0 4 rfl rfl)
theorem dX4_cue_5 : decode cX4_cue 5 = .ok (.iload_n 2, 1) := dk_28 (dk_at dksX4_cue_0 5 rfl rfl)
theorem dX4_cue_6 : decode cX4_cue 6 = .ok (.invokevirtual 129, 3) := dk_182 0 129 (dk_at dksX4_cue_0 6 rfl rfl)
theorem dX4_cue_9 : decode cX4_cue 9 = .ok (.ifCond .ne 9, 3) := dk_154 0 9 (dk_at dksX4_cue_0 9 rfl rfl)
theorem dX4_cue_12 : decode cX4_cue 12 = .ok (.aload_n 0, 1) := dk_42 (dk_at dksX4_cue_0 12 rfl rfl)
theorem dX4_cue_13 : decode cX4_cue 13 = .ok (.iconst 1, 1) := dk_4 (dk_at dksX4_cue_0 13 rfl rfl)
theorem dX4_cue_14 : decode cX4_cue 14 = .ok (.invokevirtual 119, 3) := dk_182 0 119 (dk_at dksX4_cue_0 14 rfl rfl)
theorem dX4_cue_17 : decode cX4_cue 17 = .ok (.ireturn, 1) := dk_172 (dk_at dksX4_cue_0 17 rfl rfl)
theorem dX4_cue_18 : decode cX4_cue 18 = .ok (.aload_n 0, 1) := dk_42 (dk_at dksX4_cue_0 18 rfl rfl)
theorem dX4_cue_19 : decode cX4_cue 19 = .ok (.getfield 9, 3) := dk_180 0 9 (dk_at dksX4_cue_0 19 rfl rfl)
theorem dX4_cue_22 : decode cX4_cue 22 = .ok (.iconst 4, 1) := dk_7 (dk_at dksX4_cue_0 22 rfl rfl)
theorem dX4_cue_23 : decode cX4_cue 23 = .ok (.iaload, 1) := dk_46 (dk_at dksX4_cue_0 23 rfl rfl)
theorem dX4_cue_24 : decode cX4_cue 24 = .ok (.istore 5, 2) := dk_54 5 (dk_at dksX4_cue_1 0 rfl rfl)
theorem dX4_cue_26 : decode cX4_cue 26 = .ok (.iconst 0, 1) := dk_3 (dk_at dksX4_cue_1 2 rfl rfl)
theorem dX4_cue_27 : decode cX4_cue 27 = .ok (.istore 6, 2) := dk_54 6 (dk_at dksX4_cue_1 3 rfl rfl)
theorem dX4_cue_29 : decode cX4_cue 29 = .ok (.iconst 0, 1) := dk_3 (dk_at dksX4_cue_1 5 rfl rfl)
theorem dX4_cue_30 : decode cX4_cue 30 = .ok (.istore 7, 2) := dk_54 7 (dk_at dksX4_cue_1 6 rfl rfl)
theorem dX4_cue_32 : decode cX4_cue 32 = .ok (.iconst 0, 1) := dk_3 (dk_at dksX4_cue_1 8 rfl rfl)
theorem dX4_cue_33 : decode cX4_cue 33 = .ok (.istore 8, 2) := dk_54 8 (dk_at dksX4_cue_1 9 rfl rfl)
theorem dX4_cue_35 : decode cX4_cue 35 = .ok (.iload 8, 2) := dk_21 8 (dk_at dksX4_cue_1 11 rfl rfl)
theorem dX4_cue_37 : decode cX4_cue 37 = .ok (.iload 5, 2) := dk_21 5 (dk_at dksX4_cue_1 13 rfl rfl)
theorem dX4_cue_39 : decode cX4_cue 39 = .ok (.if_icmp .ge 53, 3) := dk_162 0 53 (dk_at dksX4_cue_1 15 rfl rfl)
theorem dX4_cue_42 : decode cX4_cue 42 = .ok (.iload 6, 2) := dk_21 6 (dk_at dksX4_cue_1 18 rfl rfl)
theorem dX4_cue_44 : decode cX4_cue 44 = .ok (.aload_n 0, 1) := dk_42 (dk_at dksX4_cue_1 20 rfl rfl)
theorem dX4_cue_45 : decode cX4_cue 45 = .ok (.iload 8, 2) := dk_21 8 (dk_at dksX4_cue_1 21 rfl rfl)
theorem dX4_cue_47 : decode cX4_cue 47 = .ok (.iconst 0, 1) := dk_3 (dk_at dksX4_cue_1 23 rfl rfl)
theorem dX4_cue_48 : decode cX4_cue 48 = .ok (.invokevirtual 197, 3) := dk_182 0 197 (dk_at dksX4_cue_2 0 rfl rfl)
theorem dX4_cue_51 : decode cX4_cue 51 = .ok (.iload_n 1, 1) := dk_27 (dk_at dksX4_cue_2 3 rfl rfl)
theorem dX4_cue_52 : decode cX4_cue 52 = .ok (.if_icmp .ge 7, 3) := dk_162 0 7 (dk_at dksX4_cue_2 4 rfl rfl)
theorem dX4_cue_55 : decode cX4_cue 55 = .ok (.iconst 1, 1) := dk_4 (dk_at dksX4_cue_2 7 rfl rfl)
theorem dX4_cue_56 : decode cX4_cue 56 = .ok (.goto 4, 3) := dk_167 0 4 (dk_at dksX4_cue_2 8 rfl rfl)
theorem dX4_cue_59 : decode cX4_cue 59 = .ok (.iconst 0, 1) := dk_3 (dk_at dksX4_cue_2 11 rfl rfl)
theorem dX4_cue_60 : decode cX4_cue 60 = .ok (.iadd, 1) := dk_96 (dk_at dksX4_cue_2 12 rfl rfl)
theorem dX4_cue_61 : decode cX4_cue 61 = .ok (.istore 6, 2) := dk_54 6 (dk_at dksX4_cue_2 13 rfl rfl)
theorem dX4_cue_63 : decode cX4_cue 63 = .ok (.iload 7, 2) := dk_21 7 (dk_at dksX4_cue_2 15 rfl rfl)
theorem dX4_cue_65 : decode cX4_cue 65 = .ok (.ifCond .ne 14, 3) := dk_154 0 14 (dk_at dksX4_cue_2 17 rfl rfl)
theorem dX4_cue_68 : decode cX4_cue 68 = .ok (.aload_n 0, 1) := dk_42 (dk_at dksX4_cue_2 20 rfl rfl)
theorem dX4_cue_69 : decode cX4_cue 69 = .ok (.iload 8, 2) := dk_21 8 (dk_at dksX4_cue_2 21 rfl rfl)
theorem dX4_cue_71 : decode cX4_cue 71 = .ok (.iconst 0, 1) := dk_3 (dk_at dksX4_cue_2 23 rfl rfl)
theorem dX4_cue_72 : decode cX4_cue 72 = .ok (.invokevirtual 197, 3) := dk_182 0 197 (dk_at dksX4_cue_3 0 rfl rfl)
theorem dX4_cue_75 : decode cX4_cue 75 = .ok (.iload_n 1, 1) := dk_27 (dk_at dksX4_cue_3 3 rfl rfl)
theorem dX4_cue_76 : decode cX4_cue 76 = .ok (.if_icmp .ne 7, 3) := dk_160 0 7 (dk_at dksX4_cue_3 4 rfl rfl)
theorem dX4_cue_79 : decode cX4_cue 79 = .ok (.iconst 1, 1) := dk_4 (dk_at dksX4_cue_3 7 rfl rfl)
theorem dX4_cue_80 : decode cX4_cue 80 = .ok (.goto 4, 3) := dk_167 0 4 (dk_at dksX4_cue_3 8 rfl rfl)
theorem dX4_cue_83 : decode cX4_cue 83 = .ok (.iconst 0, 1) := dk_3 (dk_at dksX4_cue_3 11 rfl rfl)
theorem dX4_cue_84 : decode cX4_cue 84 = .ok (.istore 7, 2) := dk_54 7 (dk_at dksX4_cue_3 12 rfl rfl)
theorem dX4_cue_86 : decode cX4_cue 86 = .ok (.iinc 8 1, 3) := dk_132 8 1 (dk_at dksX4_cue_3 14 rfl rfl)
theorem dX4_cue_89 : decode cX4_cue 89 = .ok (.goto (-54), 3) := dk_167 255 202 (dk_at dksX4_cue_3 17 rfl rfl)
theorem dX4_cue_92 : decode cX4_cue 92 = .ok (.iload 7, 2) := dk_21 7 (dk_at dksX4_cue_3 20 rfl rfl)
theorem dX4_cue_94 : decode cX4_cue 94 = .ok (.ifCond .ne 34, 3) := dk_154 0 34 (dk_at dksX4_cue_4 0 rfl rfl)
theorem dX4_cue_97 : decode cX4_cue 97 = .ok (.iload_n 1, 1) := dk_27 (dk_at dksX4_cue_4 3 rfl rfl)
theorem dX4_cue_98 : decode cX4_cue 98 = .ok (.iconst 0, 1) := dk_3 (dk_at dksX4_cue_4 4 rfl rfl)
theorem dX4_cue_99 : decode cX4_cue 99 = .ok (.bipush 99, 2) := dk_16 99 (dk_at dksX4_cue_4 5 rfl rfl)
theorem dX4_cue_101 : decode cX4_cue 101 = .ok (.invokestatic 87, 3) := dk_184 0 87 (dk_at dksX4_cue_4 7 rfl rfl)
theorem dX4_cue_104 : decode cX4_cue 104 = .ok (.ifCond .eq 24, 3) := dk_153 0 24 (dk_at dksX4_cue_4 10 rfl rfl)
theorem dX4_cue_107 : decode cX4_cue 107 = .ok (.iload_n 3, 1) := dk_29 (dk_at dksX4_cue_4 13 rfl rfl)
theorem dX4_cue_108 : decode cX4_cue 108 = .ok (.iconst 0, 1) := dk_3 (dk_at dksX4_cue_4 14 rfl rfl)
theorem dX4_cue_109 : decode cX4_cue 109 = .ok (.bipush 20, 2) := dk_16 20 (dk_at dksX4_cue_4 15 rfl rfl)
theorem dX4_cue_111 : decode cX4_cue 111 = .ok (.invokestatic 87, 3) := dk_184 0 87 (dk_at dksX4_cue_4 17 rfl rfl)
theorem dX4_cue_114 : decode cX4_cue 114 = .ok (.ifCond .eq 14, 3) := dk_153 0 14 (dk_at dksX4_cue_4 20 rfl rfl)
theorem dX4_cue_117 : decode cX4_cue 117 = .ok (.iload 4, 2) := dk_21 4 (dk_at dksX4_cue_5 0 rfl rfl)
theorem dX4_cue_119 : decode cX4_cue 119 = .ok (.iconst 0, 1) := dk_3 (dk_at dksX4_cue_5 2 rfl rfl)
theorem dX4_cue_120 : decode cX4_cue 120 = .ok (.bipush 9, 2) := dk_16 9 (dk_at dksX4_cue_5 3 rfl rfl)
theorem dX4_cue_122 : decode cX4_cue 122 = .ok (.invokestatic 87, 3) := dk_184 0 87 (dk_at dksX4_cue_5 5 rfl rfl)
theorem dX4_cue_125 : decode cX4_cue 125 = .ok (.ifCond .ne 9, 3) := dk_154 0 9 (dk_at dksX4_cue_5 8 rfl rfl)
theorem dX4_cue_128 : decode cX4_cue 128 = .ok (.aload_n 0, 1) := dk_42 (dk_at dksX4_cue_5 11 rfl rfl)
theorem dX4_cue_129 : decode cX4_cue 129 = .ok (.iconst 2, 1) := dk_5 (dk_at dksX4_cue_5 12 rfl rfl)
theorem dX4_cue_130 : decode cX4_cue 130 = .ok (.invokevirtual 119, 3) := dk_182 0 119 (dk_at dksX4_cue_5 13 rfl rfl)
theorem dX4_cue_133 : decode cX4_cue 133 = .ok (.ireturn, 1) := dk_172 (dk_at dksX4_cue_5 16 rfl rfl)
theorem dX4_cue_134 : decode cX4_cue 134 = .ok (.iload 5, 2) := dk_21 5 (dk_at dksX4_cue_5 17 rfl rfl)
theorem dX4_cue_136 : decode cX4_cue 136 = .ok (.bipush 12, 2) := dk_16 12 (dk_at dksX4_cue_5 19 rfl rfl)
theorem dX4_cue_138 : decode cX4_cue 138 = .ok (.if_icmp .ne 9, 3) := dk_160 0 9 (dk_at dksX4_cue_5 21 rfl rfl)
theorem dX4_cue_141 : decode cX4_cue 141 = .ok (.aload_n 0, 1) := dk_42 (dk_at dksX4_cue_6 0 rfl rfl)
theorem dX4_cue_142 : decode cX4_cue 142 = .ok (.iconst 3, 1) := dk_6 (dk_at dksX4_cue_6 1 rfl rfl)
theorem dX4_cue_143 : decode cX4_cue 143 = .ok (.invokevirtual 119, 3) := dk_182 0 119 (dk_at dksX4_cue_6 2 rfl rfl)
theorem dX4_cue_146 : decode cX4_cue 146 = .ok (.ireturn, 1) := dk_172 (dk_at dksX4_cue_6 5 rfl rfl)
theorem dX4_cue_147 : decode cX4_cue 147 = .ok (.bipush 83, 2) := dk_16 83 (dk_at dksX4_cue_6 6 rfl rfl)
theorem dX4_cue_149 : decode cX4_cue 149 = .ok (.iconst 4, 1) := dk_7 (dk_at dksX4_cue_6 8 rfl rfl)
theorem dX4_cue_150 : decode cX4_cue 150 = .ok (.iload 6, 2) := dk_21 6 (dk_at dksX4_cue_6 9 rfl rfl)
theorem dX4_cue_152 : decode cX4_cue 152 = .ok (.imul, 1) := dk_104 (dk_at dksX4_cue_6 11 rfl rfl)
theorem dX4_cue_153 : decode cX4_cue 153 = .ok (.iadd, 1) := dk_96 (dk_at dksX4_cue_6 12 rfl rfl)
theorem dX4_cue_154 : decode cX4_cue 154 = .ok (.istore 8, 2) := dk_54 8 (dk_at dksX4_cue_6 13 rfl rfl)
theorem dX4_cue_156 : decode cX4_cue 156 = .ok (.aload_n 0, 1) := dk_42 (dk_at dksX4_cue_6 15 rfl rfl)
theorem dX4_cue_157 : decode cX4_cue 157 = .ok (.getfield 9, 3) := dk_180 0 9 (dk_at dksX4_cue_6 16 rfl rfl)
theorem dX4_cue_160 : decode cX4_cue 160 = .ok (.iload 8, 2) := dk_21 8 (dk_at dksX4_cue_6 19 rfl rfl)
theorem dX4_cue_162 : decode cX4_cue 162 = .ok (.aload_n 0, 1) := dk_42 (dk_at dksX4_cue_6 21 rfl rfl)
theorem dX4_cue_163 : decode cX4_cue 163 = .ok (.getfield 9, 3) := dk_180 0 9 (dk_at dksX4_cue_7 0 rfl rfl)
theorem dX4_cue_166 : decode cX4_cue 166 = .ok (.iload 8, 2) := dk_21 8 (dk_at dksX4_cue_7 3 rfl rfl)
theorem dX4_cue_168 : decode cX4_cue 168 = .ok (.iconst 4, 1) := dk_7 (dk_at dksX4_cue_7 5 rfl rfl)
theorem dX4_cue_169 : decode cX4_cue 169 = .ok (.iadd, 1) := dk_96 (dk_at dksX4_cue_7 6 rfl rfl)
theorem dX4_cue_170 : decode cX4_cue 170 = .ok (.iconst 4, 1) := dk_7 (dk_at dksX4_cue_7 7 rfl rfl)
theorem dX4_cue_171 : decode cX4_cue 171 = .ok (.iload 5, 2) := dk_21 5 (dk_at dksX4_cue_7 8 rfl rfl)
theorem dX4_cue_173 : decode cX4_cue 173 = .ok (.iload 6, 2) := dk_21 6 (dk_at dksX4_cue_7 10 rfl rfl)
theorem dX4_cue_175 : decode cX4_cue 175 = .ok (.isub, 1) := dk_100 (dk_at dksX4_cue_7 12 rfl rfl)
theorem dX4_cue_176 : decode cX4_cue 176 = .ok (.imul, 1) := dk_104 (dk_at dksX4_cue_7 13 rfl rfl)
theorem dX4_cue_177 : decode cX4_cue 177 = .ok (.invokestatic 72, 3) := dk_184 0 72 (dk_at dksX4_cue_7 14 rfl rfl)
theorem dX4_cue_180 : decode cX4_cue 180 = .ok (.aload_n 0, 1) := dk_42 (dk_at dksX4_cue_7 17 rfl rfl)
theorem dX4_cue_181 : decode cX4_cue 181 = .ok (.getfield 9, 3) := dk_180 0 9 (dk_at dksX4_cue_7 18 rfl rfl)
theorem dX4_cue_184 : decode cX4_cue 184 = .ok (.iload 8, 2) := dk_21 8 (dk_at dksX4_cue_7 21 rfl rfl)
theorem dX4_cue_186 : decode cX4_cue 186 = .ok (.iload_n 1, 1) := dk_27 (dk_at dksX4_cue_7 23 rfl rfl)
theorem dX4_cue_187 : decode cX4_cue 187 = .ok (.iastore, 1) := dk_79 (dk_at dksX4_cue_8 0 rfl rfl)
theorem dX4_cue_188 : decode cX4_cue 188 = .ok (.aload_n 0, 1) := dk_42 (dk_at dksX4_cue_8 1 rfl rfl)
theorem dX4_cue_189 : decode cX4_cue 189 = .ok (.getfield 9, 3) := dk_180 0 9 (dk_at dksX4_cue_8 2 rfl rfl)
theorem dX4_cue_192 : decode cX4_cue 192 = .ok (.iload 8, 2) := dk_21 8 (dk_at dksX4_cue_8 5 rfl rfl)
theorem dX4_cue_194 : decode cX4_cue 194 = .ok (.iconst 1, 1) := dk_4 (dk_at dksX4_cue_8 7 rfl rfl)
theorem dX4_cue_195 : decode cX4_cue 195 = .ok (.iadd, 1) := dk_96 (dk_at dksX4_cue_8 8 rfl rfl)
theorem dX4_cue_196 : decode cX4_cue 196 = .ok (.iload_n 2, 1) := dk_28 (dk_at dksX4_cue_8 9 rfl rfl)
theorem dX4_cue_197 : decode cX4_cue 197 = .ok (.iastore, 1) := dk_79 (dk_at dksX4_cue_8 10 rfl rfl)
theorem dX4_cue_198 : decode cX4_cue 198 = .ok (.aload_n 0, 1) := dk_42 (dk_at dksX4_cue_8 11 rfl rfl)
theorem dX4_cue_199 : decode cX4_cue 199 = .ok (.getfield 9, 3) := dk_180 0 9 (dk_at dksX4_cue_8 12 rfl rfl)
theorem dX4_cue_202 : decode cX4_cue 202 = .ok (.iload 8, 2) := dk_21 8 (dk_at dksX4_cue_8 15 rfl rfl)
theorem dX4_cue_204 : decode cX4_cue 204 = .ok (.iconst 2, 1) := dk_5 (dk_at dksX4_cue_8 17 rfl rfl)
theorem dX4_cue_205 : decode cX4_cue 205 = .ok (.iadd, 1) := dk_96 (dk_at dksX4_cue_8 18 rfl rfl)
theorem dX4_cue_206 : decode cX4_cue 206 = .ok (.iload_n 3, 1) := dk_29 (dk_at dksX4_cue_8 19 rfl rfl)
theorem dX4_cue_207 : decode cX4_cue 207 = .ok (.iastore, 1) := dk_79 (dk_at dksX4_cue_8 20 rfl rfl)
theorem dX4_cue_208 : decode cX4_cue 208 = .ok (.aload_n 0, 1) := dk_42 (dk_at dksX4_cue_8 21 rfl rfl)
theorem dX4_cue_209 : decode cX4_cue 209 = .ok (.getfield 9, 3) := dk_180 0 9 (dk_at dksX4_cue_9 0 rfl rfl)
theorem dX4_cue_212 : decode cX4_cue 212 = .ok (.iload 8, 2) := dk_21 8 (dk_at dksX4_cue_9 3 rfl rfl)
theorem dX4_cue_214 : decode cX4_cue 214 = .ok (.iconst 3, 1) := dk_6 (dk_at dksX4_cue_9 5 rfl rfl)
theorem dX4_cue_215 : decode cX4_cue 215 = .ok (.iadd, 1) := dk_96 (dk_at dksX4_cue_9 6 rfl rfl)
theorem dX4_cue_216 : decode cX4_cue 216 = .ok (.iload 4, 2) := dk_21 4 (dk_at dksX4_cue_9 7 rfl rfl)
theorem dX4_cue_218 : decode cX4_cue 218 = .ok (.iastore, 1) := dk_79 (dk_at dksX4_cue_9 9 rfl rfl)
theorem dX4_cue_219 : decode cX4_cue 219 = .ok (.aload_n 0, 1) := dk_42 (dk_at dksX4_cue_9 10 rfl rfl)
theorem dX4_cue_220 : decode cX4_cue 220 = .ok (.getfield 9, 3) := dk_180 0 9 (dk_at dksX4_cue_9 11 rfl rfl)
theorem dX4_cue_223 : decode cX4_cue 223 = .ok (.iconst 4, 1) := dk_7 (dk_at dksX4_cue_9 14 rfl rfl)
theorem dX4_cue_224 : decode cX4_cue 224 = .ok (.dup2, 1) := dk_92 (dk_at dksX4_cue_9 15 rfl rfl)
theorem dX4_cue_225 : decode cX4_cue 225 = .ok (.iaload, 1) := dk_46 (dk_at dksX4_cue_9 16 rfl rfl)
theorem dX4_cue_226 : decode cX4_cue 226 = .ok (.iconst 1, 1) := dk_4 (dk_at dksX4_cue_9 17 rfl rfl)
theorem dX4_cue_227 : decode cX4_cue 227 = .ok (.iadd, 1) := dk_96 (dk_at dksX4_cue_9 18 rfl rfl)
theorem dX4_cue_228 : decode cX4_cue 228 = .ok (.iastore, 1) := dk_79 (dk_at dksX4_cue_9 19 rfl rfl)
theorem dX4_cue_229 : decode cX4_cue 229 = .ok (.aload_n 0, 1) := dk_42 (dk_at dksX4_cue_9 20 rfl rfl)
theorem dX4_cue_230 : decode cX4_cue 230 = .ok (.iload 5, 2) := dk_21 5 (dk_at dksX4_cue_9 21 rfl rfl)
theorem dX4_cue_232 : decode cX4_cue 232 = .ok (.iconst 1, 1) := dk_4 (dk_at dksX4_cue_9 23 rfl rfl)
theorem dX4_cue_233 : decode cX4_cue 233 = .ok (.iadd, 1) := dk_96 (dk_at dksX4_cue_10 0 rfl rfl)
theorem dX4_cue_234 : decode cX4_cue 234 = .ok (.invokevirtual 122, 3) := dk_182 0 122 (dk_at dksX4_cue_10 1 rfl rfl)
theorem dX4_cue_237 : decode cX4_cue 237 = .ok (.ireturn, 1) := dk_172 (dk_at dksX4_cue_10 4 rfl rfl)
abbrev cX4_cue1 : ByteArray := prog_21_method_57_code
def yX4_cue1 : MethodName := ⟨RX4, "cue1", "(II)I"⟩
def dkwX4_cue1_0 : List UInt8 := [42, 180, 0, 9, 16, 83, 7, 27, 104, 96, 28, 96, 46, 172]
abbrev dktX4_cue1_0 : List UInt8 := dkwX4_cue1_0 ++ []
theorem dksX4_cue1_0 : cX4_cue1.data.toList.drop 0 = dktX4_cue1_0 := by decide +kernel
theorem dX4_cue1_0 : decode cX4_cue1 0 = .ok (.aload_n 0, 1) := dk_42 (dk_at dksX4_cue1_0 0 rfl rfl)
theorem dX4_cue1_1 : decode cX4_cue1 1 = .ok (.getfield 9, 3) := dk_180 0 9 (dk_at dksX4_cue1_0 1 rfl rfl)
theorem dX4_cue1_4 : decode cX4_cue1 4 = .ok (.bipush 83, 2) := dk_16 83 (dk_at dksX4_cue1_0 4 rfl rfl)
theorem dX4_cue1_6 : decode cX4_cue1 6 = .ok (.iconst 4, 1) := dk_7 (dk_at dksX4_cue1_0 6 rfl rfl)
theorem dX4_cue1_7 : decode cX4_cue1 7 = .ok (.iload_n 1, 1) := dk_27 (dk_at dksX4_cue1_0 7 rfl rfl)
theorem dX4_cue1_8 : decode cX4_cue1 8 = .ok (.imul, 1) := dk_104 (dk_at dksX4_cue1_0 8 rfl rfl)
theorem dX4_cue1_9 : decode cX4_cue1 9 = .ok (.iadd, 1) := dk_96 (dk_at dksX4_cue1_0 9 rfl rfl)
theorem dX4_cue1_10 : decode cX4_cue1 10 = .ok (.iload_n 2, 1) := dk_28 (dk_at dksX4_cue1_0 10 rfl rfl)
theorem dX4_cue1_11 : decode cX4_cue1 11 = .ok (.iadd, 1) := dk_96 (dk_at dksX4_cue1_0 11 rfl rfl)
theorem dX4_cue1_12 : decode cX4_cue1 12 = .ok (.iaload, 1) := dk_46 (dk_at dksX4_cue1_0 12 rfl rfl)
theorem dX4_cue1_13 : decode cX4_cue1 13 = .ok (.ireturn, 1) := dk_172 (dk_at dksX4_cue1_0 13 rfl rfl)
abbrev cX4_cueOf : ByteArray := prog_21_method_59_code
def yX4_cueOf : MethodName := ⟨RX4, "cueOf", "(II)I"⟩
def dkwX4_cueOf_2 : List UInt8 := [167, 0, 9, 42, 27, 28, 182, 0, 197, 172]
abbrev dktX4_cueOf_2 : List UInt8 := dkwX4_cueOf_2 ++ []
def dkwX4_cueOf_1 : List UInt8 := [184, 0, 87, 154, 0, 7, 5, 167, 0, 4, 3, 181, 0, 69, 42, 180, 0, 69, 158, 0, 7, 3]
abbrev dktX4_cueOf_1 : List UInt8 := dkwX4_cueOf_1 ++ dktX4_cueOf_2
def dkwX4_cueOf_0 : List UInt8 := [42, 27, 3, 42, 180, 0, 9, 7, 46, 4, 100, 184, 0, 87, 154, 0, 7, 4, 167, 0, 17, 28, 3, 6]
abbrev dktX4_cueOf_0 : List UInt8 := dkwX4_cueOf_0 ++ dktX4_cueOf_1
theorem dksX4_cueOf_0 : cX4_cueOf.data.toList.drop 0 = dktX4_cueOf_0 := by decide +kernel
theorem dksX4_cueOf_1 : cX4_cueOf.data.toList.drop 24 = dktX4_cueOf_1 := dk_seg dksX4_cueOf_0 24 rfl rfl
theorem dksX4_cueOf_2 : cX4_cueOf.data.toList.drop 46 = dktX4_cueOf_2 := dk_seg dksX4_cueOf_1 22 rfl rfl
theorem dX4_cueOf_0 : decode cX4_cueOf 0 = .ok (.aload_n 0, 1) := dk_42 (dk_at dksX4_cueOf_0 0 rfl rfl)
theorem dX4_cueOf_1 : decode cX4_cueOf 1 = .ok (.iload_n 1, 1) := dk_27 (dk_at dksX4_cueOf_0 1 rfl rfl)
theorem dX4_cueOf_2 : decode cX4_cueOf 2 = .ok (.iconst 0, 1) := dk_3 (dk_at dksX4_cueOf_0 2 rfl rfl)
theorem dX4_cueOf_3 : decode cX4_cueOf 3 = .ok (.aload_n 0, 1) := dk_42 (dk_at dksX4_cueOf_0 3 rfl rfl)
theorem dX4_cueOf_4 : decode cX4_cueOf 4 = .ok (.getfield 9, 3) := dk_180 0 9 (dk_at dksX4_cueOf_0 4 rfl rfl)
theorem dX4_cueOf_7 : decode cX4_cueOf 7 = .ok (.iconst 4, 1) := dk_7 (dk_at dksX4_cueOf_0 7 rfl rfl)
theorem dX4_cueOf_8 : decode cX4_cueOf 8 = .ok (.iaload, 1) := dk_46 (dk_at dksX4_cueOf_0 8 rfl rfl)
theorem dX4_cueOf_9 : decode cX4_cueOf 9 = .ok (.iconst 1, 1) := dk_4 (dk_at dksX4_cueOf_0 9 rfl rfl)
theorem dX4_cueOf_10 : decode cX4_cueOf 10 = .ok (.isub, 1) := dk_100 (dk_at dksX4_cueOf_0 10 rfl rfl)
theorem dX4_cueOf_11 : decode cX4_cueOf 11 = .ok (.invokestatic 87, 3) := dk_184 0 87 (dk_at dksX4_cueOf_0 11 rfl rfl)
theorem dX4_cueOf_14 : decode cX4_cueOf 14 = .ok (.ifCond .ne 7, 3) := dk_154 0 7 (dk_at dksX4_cueOf_0 14 rfl rfl)
theorem dX4_cueOf_17 : decode cX4_cueOf 17 = .ok (.iconst 1, 1) := dk_4 (dk_at dksX4_cueOf_0 17 rfl rfl)
theorem dX4_cueOf_18 : decode cX4_cueOf 18 = .ok (.goto 17, 3) := dk_167 0 17 (dk_at dksX4_cueOf_0 18 rfl rfl)
theorem dX4_cueOf_21 : decode cX4_cueOf 21 = .ok (.iload_n 2, 1) := dk_28 (dk_at dksX4_cueOf_0 21 rfl rfl)
theorem dX4_cueOf_22 : decode cX4_cueOf 22 = .ok (.iconst 0, 1) := dk_3 (dk_at dksX4_cueOf_0 22 rfl rfl)
theorem dX4_cueOf_23 : decode cX4_cueOf 23 = .ok (.iconst 3, 1) := dk_6 (dk_at dksX4_cueOf_0 23 rfl rfl)
theorem dX4_cueOf_24 : decode cX4_cueOf 24 = .ok (.invokestatic 87, 3) := dk_184 0 87 (dk_at dksX4_cueOf_1 0 rfl rfl)
theorem dX4_cueOf_27 : decode cX4_cueOf 27 = .ok (.ifCond .ne 7, 3) := dk_154 0 7 (dk_at dksX4_cueOf_1 3 rfl rfl)
theorem dX4_cueOf_30 : decode cX4_cueOf 30 = .ok (.iconst 2, 1) := dk_5 (dk_at dksX4_cueOf_1 6 rfl rfl)
theorem dX4_cueOf_31 : decode cX4_cueOf 31 = .ok (.goto 4, 3) := dk_167 0 4 (dk_at dksX4_cueOf_1 7 rfl rfl)
theorem dX4_cueOf_34 : decode cX4_cueOf 34 = .ok (.iconst 0, 1) := dk_3 (dk_at dksX4_cueOf_1 10 rfl rfl)
theorem dX4_cueOf_35 : decode cX4_cueOf 35 = .ok (.putfield 69, 3) := dk_181 0 69 (dk_at dksX4_cueOf_1 11 rfl rfl)
theorem dX4_cueOf_38 : decode cX4_cueOf 38 = .ok (.aload_n 0, 1) := dk_42 (dk_at dksX4_cueOf_1 14 rfl rfl)
theorem dX4_cueOf_39 : decode cX4_cueOf 39 = .ok (.getfield 69, 3) := dk_180 0 69 (dk_at dksX4_cueOf_1 15 rfl rfl)
theorem dX4_cueOf_42 : decode cX4_cueOf 42 = .ok (.ifCond .le 7, 3) := dk_158 0 7 (dk_at dksX4_cueOf_1 18 rfl rfl)
theorem dX4_cueOf_45 : decode cX4_cueOf 45 = .ok (.iconst 0, 1) := dk_3 (dk_at dksX4_cueOf_1 21 rfl rfl)
theorem dX4_cueOf_46 : decode cX4_cueOf 46 = .ok (.goto 9, 3) := dk_167 0 9 (dk_at dksX4_cueOf_2 0 rfl rfl)
theorem dX4_cueOf_49 : decode cX4_cueOf 49 = .ok (.aload_n 0, 1) := dk_42 (dk_at dksX4_cueOf_2 3 rfl rfl)
theorem dX4_cueOf_50 : decode cX4_cueOf 50 = .ok (.iload_n 1, 1) := dk_27 (dk_at dksX4_cueOf_2 4 rfl rfl)
theorem dX4_cueOf_51 : decode cX4_cueOf 51 = .ok (.iload_n 2, 1) := dk_28 (dk_at dksX4_cueOf_2 5 rfl rfl)
theorem dX4_cueOf_52 : decode cX4_cueOf 52 = .ok (.invokevirtual 197, 3) := dk_182 0 197 (dk_at dksX4_cueOf_2 6 rfl rfl)
theorem dX4_cueOf_55 : decode cX4_cueOf 55 = .ok (.ireturn, 1) := dk_172 (dk_at dksX4_cueOf_2 9 rfl rfl)
abbrev cX4_nextLight : ByteArray := prog_21_method_61_code
def yX4_nextLight : MethodName := ⟨RX4, "nextLight", "()I"⟩
def dkwX4_nextLight_1 : List UInt8 := [158, 0, 7, 3, 167, 0, 9, 42, 27, 3, 182, 0, 197, 172]
abbrev dktX4_nextLight_1 : List UInt8 := dkwX4_nextLight_1 ++ []
def dkwX4_nextLight_0 : List UInt8 := [42, 182, 0, 200, 60, 42, 27, 156, 0, 7, 4, 167, 0, 4, 3, 181, 0, 69, 42, 180, 0, 69]
abbrev dktX4_nextLight_0 : List UInt8 := dkwX4_nextLight_0 ++ dktX4_nextLight_1
theorem dksX4_nextLight_0 : cX4_nextLight.data.toList.drop 0 = dktX4_nextLight_0 := by decide +kernel
theorem dksX4_nextLight_1 : cX4_nextLight.data.toList.drop 22 = dktX4_nextLight_1 := dk_seg dksX4_nextLight_0 22 rfl rfl
theorem dX4_nextLight_0 : decode cX4_nextLight 0 = .ok (.aload_n 0, 1) := dk_42 (dk_at dksX4_nextLight_0 0 rfl rfl)
theorem dX4_nextLight_1 : decode cX4_nextLight 1 = .ok (.invokevirtual 200, 3) := dk_182 0 200 (dk_at dksX4_nextLight_0 1 rfl rfl)
theorem dX4_nextLight_4 : decode cX4_nextLight 4 = .ok (.istore_n 1, 1) := dk_60 (dk_at dksX4_nextLight_0 4 rfl rfl)
theorem dX4_nextLight_5 : decode cX4_nextLight 5 = .ok (.aload_n 0, 1) := dk_42 (dk_at dksX4_nextLight_0 5 rfl rfl)
theorem dX4_nextLight_6 : decode cX4_nextLight 6 = .ok (.iload_n 1, 1) := dk_27 (dk_at dksX4_nextLight_0 6 rfl rfl)
theorem dX4_nextLight_7 : decode cX4_nextLight 7 = .ok (.ifCond .ge 7, 3) := dk_156 0 7 (dk_at dksX4_nextLight_0 7 rfl rfl)
theorem dX4_nextLight_10 : decode cX4_nextLight 10 = .ok (.iconst 1, 1) := dk_4 (dk_at dksX4_nextLight_0 10 rfl rfl)
theorem dX4_nextLight_11 : decode cX4_nextLight 11 = .ok (.goto 4, 3) := dk_167 0 4 (dk_at dksX4_nextLight_0 11 rfl rfl)
theorem dX4_nextLight_14 : decode cX4_nextLight 14 = .ok (.iconst 0, 1) := dk_3 (dk_at dksX4_nextLight_0 14 rfl rfl)
theorem dX4_nextLight_15 : decode cX4_nextLight 15 = .ok (.putfield 69, 3) := dk_181 0 69 (dk_at dksX4_nextLight_0 15 rfl rfl)
theorem dX4_nextLight_18 : decode cX4_nextLight 18 = .ok (.aload_n 0, 1) := dk_42 (dk_at dksX4_nextLight_0 18 rfl rfl)
theorem dX4_nextLight_19 : decode cX4_nextLight 19 = .ok (.getfield 69, 3) := dk_180 0 69 (dk_at dksX4_nextLight_0 19 rfl rfl)
theorem dX4_nextLight_22 : decode cX4_nextLight 22 = .ok (.ifCond .le 7, 3) := dk_158 0 7 (dk_at dksX4_nextLight_1 0 rfl rfl)
theorem dX4_nextLight_25 : decode cX4_nextLight 25 = .ok (.iconst 0, 1) := dk_3 (dk_at dksX4_nextLight_1 3 rfl rfl)
theorem dX4_nextLight_26 : decode cX4_nextLight 26 = .ok (.goto 9, 3) := dk_167 0 9 (dk_at dksX4_nextLight_1 4 rfl rfl)
theorem dX4_nextLight_29 : decode cX4_nextLight 29 = .ok (.aload_n 0, 1) := dk_42 (dk_at dksX4_nextLight_1 7 rfl rfl)
theorem dX4_nextLight_30 : decode cX4_nextLight 30 = .ok (.iload_n 1, 1) := dk_27 (dk_at dksX4_nextLight_1 8 rfl rfl)
theorem dX4_nextLight_31 : decode cX4_nextLight 31 = .ok (.iconst 0, 1) := dk_3 (dk_at dksX4_nextLight_1 9 rfl rfl)
theorem dX4_nextLight_32 : decode cX4_nextLight 32 = .ok (.invokevirtual 197, 3) := dk_182 0 197 (dk_at dksX4_nextLight_1 10 rfl rfl)
theorem dX4_nextLight_35 : decode cX4_nextLight 35 = .ok (.ireturn, 1) := dk_172 (dk_at dksX4_nextLight_1 13 rfl rfl)
abbrev cX4_next : ByteArray := prog_21_method_60_code
def yX4_next : MethodName := ⟨RX4, "next", "()I"⟩
def dkwX4_next_1 : List UInt8 := [46, 164, 0, 5, 27, 172, 132, 1, 1, 167, 255, 225, 2, 172]
abbrev dktX4_next_1 : List UInt8 := dkwX4_next_1 ++ []
def dkwX4_next_0 : List UInt8 := [3, 60, 27, 42, 180, 0, 9, 7, 46, 162, 0, 27, 42, 27, 3, 182, 0, 197, 42, 180, 0, 9, 16, 7]
abbrev dktX4_next_0 : List UInt8 := dkwX4_next_0 ++ dktX4_next_1
theorem dksX4_next_0 : cX4_next.data.toList.drop 0 = dktX4_next_0 := by decide +kernel
theorem dksX4_next_1 : cX4_next.data.toList.drop 24 = dktX4_next_1 := dk_seg dksX4_next_0 24 rfl rfl
theorem dX4_next_0 : decode cX4_next 0 = .ok (.iconst 0, 1) := dk_3 (dk_at dksX4_next_0 0 rfl rfl)
theorem dX4_next_1 : decode cX4_next 1 = .ok (.istore_n 1, 1) := dk_60 (dk_at dksX4_next_0 1 rfl rfl)
theorem dX4_next_2 : decode cX4_next 2 = .ok (.iload_n 1, 1) := dk_27 (dk_at dksX4_next_0 2 rfl rfl)
theorem dX4_next_3 : decode cX4_next 3 = .ok (.aload_n 0, 1) := dk_42 (dk_at dksX4_next_0 3 rfl rfl)
theorem dX4_next_4 : decode cX4_next 4 = .ok (.getfield 9, 3) := dk_180 0 9 (dk_at dksX4_next_0 4 rfl rfl)
theorem dX4_next_7 : decode cX4_next 7 = .ok (.iconst 4, 1) := dk_7 (dk_at dksX4_next_0 7 rfl rfl)
theorem dX4_next_8 : decode cX4_next 8 = .ok (.iaload, 1) := dk_46 (dk_at dksX4_next_0 8 rfl rfl)
theorem dX4_next_9 : decode cX4_next 9 = .ok (.if_icmp .ge 27, 3) := dk_162 0 27 (dk_at dksX4_next_0 9 rfl rfl)
theorem dX4_next_12 : decode cX4_next 12 = .ok (.aload_n 0, 1) := dk_42 (dk_at dksX4_next_0 12 rfl rfl)
theorem dX4_next_13 : decode cX4_next 13 = .ok (.iload_n 1, 1) := dk_27 (dk_at dksX4_next_0 13 rfl rfl)
theorem dX4_next_14 : decode cX4_next 14 = .ok (.iconst 0, 1) := dk_3 (dk_at dksX4_next_0 14 rfl rfl)
theorem dX4_next_15 : decode cX4_next 15 = .ok (.invokevirtual 197, 3) := dk_182 0 197 (dk_at dksX4_next_0 15 rfl rfl)
theorem dX4_next_18 : decode cX4_next 18 = .ok (.aload_n 0, 1) := dk_42 (dk_at dksX4_next_0 18 rfl rfl)
theorem dX4_next_19 : decode cX4_next 19 = .ok (.getfield 9, 3) := dk_180 0 9 (dk_at dksX4_next_0 19 rfl rfl)
theorem dX4_next_22 : decode cX4_next 22 = .ok (.bipush 7, 2) := dk_16 7 (dk_at dksX4_next_0 22 rfl rfl)
theorem dX4_next_24 : decode cX4_next 24 = .ok (.iaload, 1) := dk_46 (dk_at dksX4_next_1 0 rfl rfl)
theorem dX4_next_25 : decode cX4_next 25 = .ok (.if_icmp .le 5, 3) := dk_164 0 5 (dk_at dksX4_next_1 1 rfl rfl)
theorem dX4_next_28 : decode cX4_next 28 = .ok (.iload_n 1, 1) := dk_27 (dk_at dksX4_next_1 4 rfl rfl)
theorem dX4_next_29 : decode cX4_next 29 = .ok (.ireturn, 1) := dk_172 (dk_at dksX4_next_1 5 rfl rfl)
theorem dX4_next_30 : decode cX4_next 30 = .ok (.iinc 1 1, 3) := dk_132 1 1 (dk_at dksX4_next_1 6 rfl rfl)
theorem dX4_next_33 : decode cX4_next 33 = .ok (.goto (-31), 3) := dk_167 255 225 (dk_at dksX4_next_1 9 rfl rfl)
theorem dX4_next_36 : decode cX4_next 36 = .ok (.iconst (-1), 1) := dk_2 (dk_at dksX4_next_1 12 rfl rfl)
theorem dX4_next_37 : decode cX4_next 37 = .ok (.ireturn, 1) := dk_172 (dk_at dksX4_next_1 13 rfl rfl)
abbrev cX4_go : ByteArray := prog_21_method_63_code
def yX4_go : MethodName := ⟨RX4, "go", "()I"⟩
def dkwX4_go_0 : List UInt8 := [42, 182, 0, 116, 42, 42, 182, 0, 203, 182, 0, 122, 172]
abbrev dktX4_go_0 : List UInt8 := dkwX4_go_0 ++ []
theorem dksX4_go_0 : cX4_go.data.toList.drop 0 = dktX4_go_0 := by decide +kernel
theorem dX4_go_0 : decode cX4_go 0 = .ok (.aload_n 0, 1) := dk_42 (dk_at dksX4_go_0 0 rfl rfl)
theorem dX4_go_1 : decode cX4_go 1 = .ok (.invokevirtual 116, 3) := dk_182 0 116 (dk_at dksX4_go_0 1 rfl rfl)
theorem dX4_go_4 : decode cX4_go 4 = .ok (.aload_n 0, 1) := dk_42 (dk_at dksX4_go_0 4 rfl rfl)
theorem dX4_go_5 : decode cX4_go 5 = .ok (.aload_n 0, 1) := dk_42 (dk_at dksX4_go_0 5 rfl rfl)
theorem dX4_go_6 : decode cX4_go 6 = .ok (.invokevirtual 203, 3) := dk_182 0 203 (dk_at dksX4_go_0 6 rfl rfl)
theorem dX4_go_9 : decode cX4_go 9 = .ok (.invokevirtual 122, 3) := dk_182 0 122 (dk_at dksX4_go_0 9 rfl rfl)
theorem dX4_go_12 : decode cX4_go 12 = .ok (.ireturn, 1) := dk_172 (dk_at dksX4_go_0 12 rfl rfl)
abbrev cX4_doGo : ByteArray := prog_21_method_62_code
def yX4_doGo : MethodName := ⟨RX4, "doGo", "()I"⟩
def dkwX4_doGo_4 : List UInt8 := [79, 42, 180, 0, 9, 16, 8, 92, 46, 4, 96, 79, 42, 180, 0, 9, 16, 7, 46, 172]
abbrev dktX4_doGo_4 : List UInt8 := dkwX4_doGo_4 ++ []
def dkwX4_doGo_3 : List UInt8 := [182, 0, 139, 172, 42, 28, 29, 182, 0, 191, 54, 4, 42, 180, 0, 9, 16, 7, 42, 27, 3, 182, 0, 197]
abbrev dktX4_doGo_3 : List UInt8 := dkwX4_doGo_3 ++ dktX4_doGo_4
def dkwX4_doGo_2 : List UInt8 := [42, 28, 29, 182, 0, 181, 42, 27, 6, 182, 0, 197, 164, 0, 16, 42, 4, 8, 42, 28, 29, 182, 0, 181]
abbrev dktX4_doGo_2 : List UInt8 := dkwX4_doGo_2 ++ dktX4_doGo_3
def dkwX4_doGo_1 : List UInt8 := [27, 4, 182, 0, 197, 61, 42, 27, 5, 182, 0, 197, 62, 42, 28, 4, 182, 0, 187, 153, 0, 5, 3, 172]
abbrev dktX4_doGo_1 : List UInt8 := dkwX4_doGo_1 ++ dktX4_doGo_2
def dkwX4_doGo_0 : List UInt8 := [42, 182, 0, 200, 60, 27, 156, 0, 17, 42, 4, 16, 10, 42, 180, 0, 9, 7, 46, 182, 0, 139, 172, 42]
abbrev dktX4_doGo_0 : List UInt8 := dkwX4_doGo_0 ++ dktX4_doGo_1
theorem dksX4_doGo_0 : cX4_doGo.data.toList.drop 0 = dktX4_doGo_0 := by decide +kernel
theorem dksX4_doGo_1 : cX4_doGo.data.toList.drop 24 = dktX4_doGo_1 := dk_seg dksX4_doGo_0 24 rfl rfl
theorem dksX4_doGo_2 : cX4_doGo.data.toList.drop 48 = dktX4_doGo_2 := dk_seg dksX4_doGo_1 24 rfl rfl
theorem dksX4_doGo_3 : cX4_doGo.data.toList.drop 72 = dktX4_doGo_3 := dk_seg dksX4_doGo_2 24 rfl rfl
theorem dksX4_doGo_4 : cX4_doGo.data.toList.drop 96 = dktX4_doGo_4 := dk_seg dksX4_doGo_3 24 rfl rfl
theorem dX4_doGo_0 : decode cX4_doGo 0 = .ok (.aload_n 0, 1) := dk_42 (dk_at dksX4_doGo_0 0 rfl rfl)
theorem dX4_doGo_1 : decode cX4_doGo 1 = .ok (.invokevirtual 200, 3) := dk_182 0 200 (dk_at dksX4_doGo_0 1 rfl rfl)
theorem dX4_doGo_4 : decode cX4_doGo 4 = .ok (.istore_n 1, 1) := dk_60 (dk_at dksX4_doGo_0 4 rfl rfl)
theorem dX4_doGo_5 : decode cX4_doGo 5 = .ok (.iload_n 1, 1) := dk_27 (dk_at dksX4_doGo_0 5 rfl rfl)
theorem dX4_doGo_6 : decode cX4_doGo 6 = .ok (.ifCond .ge 17, 3) := dk_156 0 17 (dk_at dksX4_doGo_0 6 rfl rfl)
theorem dX4_doGo_9 : decode cX4_doGo 9 = .ok (.aload_n 0, 1) := dk_42 (dk_at dksX4_doGo_0 9 rfl rfl)
theorem dX4_doGo_10 : decode cX4_doGo 10 = .ok (.iconst 1, 1) := dk_4 (dk_at dksX4_doGo_0 10 rfl rfl)
theorem dX4_doGo_11 : decode cX4_doGo 11 = .ok (.bipush 10, 2) := dk_16 10 (dk_at dksX4_doGo_0 11 rfl rfl)
theorem dX4_doGo_13 : decode cX4_doGo 13 = .ok (.aload_n 0, 1) := dk_42 (dk_at dksX4_doGo_0 13 rfl rfl)
theorem dX4_doGo_14 : decode cX4_doGo 14 = .ok (.getfield 9, 3) := dk_180 0 9 (dk_at dksX4_doGo_0 14 rfl rfl)
theorem dX4_doGo_17 : decode cX4_doGo 17 = .ok (.iconst 4, 1) := dk_7 (dk_at dksX4_doGo_0 17 rfl rfl)
theorem dX4_doGo_18 : decode cX4_doGo 18 = .ok (.iaload, 1) := dk_46 (dk_at dksX4_doGo_0 18 rfl rfl)
theorem dX4_doGo_19 : decode cX4_doGo 19 = .ok (.invokevirtual 139, 3) := dk_182 0 139 (dk_at dksX4_doGo_0 19 rfl rfl)
theorem dX4_doGo_22 : decode cX4_doGo 22 = .ok (.ireturn, 1) := dk_172 (dk_at dksX4_doGo_0 22 rfl rfl)
theorem dX4_doGo_23 : decode cX4_doGo 23 = .ok (.aload_n 0, 1) := dk_42 (dk_at dksX4_doGo_0 23 rfl rfl)
theorem dX4_doGo_24 : decode cX4_doGo 24 = .ok (.iload_n 1, 1) := dk_27 (dk_at dksX4_doGo_1 0 rfl rfl)
theorem dX4_doGo_25 : decode cX4_doGo 25 = .ok (.iconst 1, 1) := dk_4 (dk_at dksX4_doGo_1 1 rfl rfl)
theorem dX4_doGo_26 : decode cX4_doGo 26 = .ok (.invokevirtual 197, 3) := dk_182 0 197 (dk_at dksX4_doGo_1 2 rfl rfl)
theorem dX4_doGo_29 : decode cX4_doGo 29 = .ok (.istore_n 2, 1) := dk_61 (dk_at dksX4_doGo_1 5 rfl rfl)
theorem dX4_doGo_30 : decode cX4_doGo 30 = .ok (.aload_n 0, 1) := dk_42 (dk_at dksX4_doGo_1 6 rfl rfl)
theorem dX4_doGo_31 : decode cX4_doGo 31 = .ok (.iload_n 1, 1) := dk_27 (dk_at dksX4_doGo_1 7 rfl rfl)
theorem dX4_doGo_32 : decode cX4_doGo 32 = .ok (.iconst 2, 1) := dk_5 (dk_at dksX4_doGo_1 8 rfl rfl)
theorem dX4_doGo_33 : decode cX4_doGo 33 = .ok (.invokevirtual 197, 3) := dk_182 0 197 (dk_at dksX4_doGo_1 9 rfl rfl)
theorem dX4_doGo_36 : decode cX4_doGo 36 = .ok (.istore_n 3, 1) := dk_62 (dk_at dksX4_doGo_1 12 rfl rfl)
theorem dX4_doGo_37 : decode cX4_doGo 37 = .ok (.aload_n 0, 1) := dk_42 (dk_at dksX4_doGo_1 13 rfl rfl)
theorem dX4_doGo_38 : decode cX4_doGo 38 = .ok (.iload_n 2, 1) := dk_28 (dk_at dksX4_doGo_1 14 rfl rfl)
theorem dX4_doGo_39 : decode cX4_doGo 39 = .ok (.iconst 1, 1) := dk_4 (dk_at dksX4_doGo_1 15 rfl rfl)
theorem dX4_doGo_40 : decode cX4_doGo 40 = .ok (.invokevirtual 187, 3) := dk_182 0 187 (dk_at dksX4_doGo_1 16 rfl rfl)
theorem dX4_doGo_43 : decode cX4_doGo 43 = .ok (.ifCond .eq 5, 3) := dk_153 0 5 (dk_at dksX4_doGo_1 19 rfl rfl)
theorem dX4_doGo_46 : decode cX4_doGo 46 = .ok (.iconst 0, 1) := dk_3 (dk_at dksX4_doGo_1 22 rfl rfl)
theorem dX4_doGo_47 : decode cX4_doGo 47 = .ok (.ireturn, 1) := dk_172 (dk_at dksX4_doGo_1 23 rfl rfl)
theorem dX4_doGo_48 : decode cX4_doGo 48 = .ok (.aload_n 0, 1) := dk_42 (dk_at dksX4_doGo_2 0 rfl rfl)
theorem dX4_doGo_49 : decode cX4_doGo 49 = .ok (.iload_n 2, 1) := dk_28 (dk_at dksX4_doGo_2 1 rfl rfl)
theorem dX4_doGo_50 : decode cX4_doGo 50 = .ok (.iload_n 3, 1) := dk_29 (dk_at dksX4_doGo_2 2 rfl rfl)
theorem dX4_doGo_51 : decode cX4_doGo 51 = .ok (.invokevirtual 181, 3) := dk_182 0 181 (dk_at dksX4_doGo_2 3 rfl rfl)
theorem dX4_doGo_54 : decode cX4_doGo 54 = .ok (.aload_n 0, 1) := dk_42 (dk_at dksX4_doGo_2 6 rfl rfl)
theorem dX4_doGo_55 : decode cX4_doGo 55 = .ok (.iload_n 1, 1) := dk_27 (dk_at dksX4_doGo_2 7 rfl rfl)
theorem dX4_doGo_56 : decode cX4_doGo 56 = .ok (.iconst 3, 1) := dk_6 (dk_at dksX4_doGo_2 8 rfl rfl)
theorem dX4_doGo_57 : decode cX4_doGo 57 = .ok (.invokevirtual 197, 3) := dk_182 0 197 (dk_at dksX4_doGo_2 9 rfl rfl)
theorem dX4_doGo_60 : decode cX4_doGo 60 = .ok (.if_icmp .le 16, 3) := dk_164 0 16 (dk_at dksX4_doGo_2 12 rfl rfl)
theorem dX4_doGo_63 : decode cX4_doGo 63 = .ok (.aload_n 0, 1) := dk_42 (dk_at dksX4_doGo_2 15 rfl rfl)
theorem dX4_doGo_64 : decode cX4_doGo 64 = .ok (.iconst 1, 1) := dk_4 (dk_at dksX4_doGo_2 16 rfl rfl)
theorem dX4_doGo_65 : decode cX4_doGo 65 = .ok (.iconst 5, 1) := dk_8 (dk_at dksX4_doGo_2 17 rfl rfl)
theorem dX4_doGo_66 : decode cX4_doGo 66 = .ok (.aload_n 0, 1) := dk_42 (dk_at dksX4_doGo_2 18 rfl rfl)
theorem dX4_doGo_67 : decode cX4_doGo 67 = .ok (.iload_n 2, 1) := dk_28 (dk_at dksX4_doGo_2 19 rfl rfl)
theorem dX4_doGo_68 : decode cX4_doGo 68 = .ok (.iload_n 3, 1) := dk_29 (dk_at dksX4_doGo_2 20 rfl rfl)
theorem dX4_doGo_69 : decode cX4_doGo 69 = .ok (.invokevirtual 181, 3) := dk_182 0 181 (dk_at dksX4_doGo_2 21 rfl rfl)
theorem dX4_doGo_72 : decode cX4_doGo 72 = .ok (.invokevirtual 139, 3) := dk_182 0 139 (dk_at dksX4_doGo_3 0 rfl rfl)
theorem dX4_doGo_75 : decode cX4_doGo 75 = .ok (.ireturn, 1) := dk_172 (dk_at dksX4_doGo_3 3 rfl rfl)
theorem dX4_doGo_76 : decode cX4_doGo 76 = .ok (.aload_n 0, 1) := dk_42 (dk_at dksX4_doGo_3 4 rfl rfl)
theorem dX4_doGo_77 : decode cX4_doGo 77 = .ok (.iload_n 2, 1) := dk_28 (dk_at dksX4_doGo_3 5 rfl rfl)
theorem dX4_doGo_78 : decode cX4_doGo 78 = .ok (.iload_n 3, 1) := dk_29 (dk_at dksX4_doGo_3 6 rfl rfl)
theorem dX4_doGo_79 : decode cX4_doGo 79 = .ok (.invokevirtual 191, 3) := dk_182 0 191 (dk_at dksX4_doGo_3 7 rfl rfl)
theorem dX4_doGo_82 : decode cX4_doGo 82 = .ok (.istore 4, 2) := dk_54 4 (dk_at dksX4_doGo_3 10 rfl rfl)
theorem dX4_doGo_84 : decode cX4_doGo 84 = .ok (.aload_n 0, 1) := dk_42 (dk_at dksX4_doGo_3 12 rfl rfl)
theorem dX4_doGo_85 : decode cX4_doGo 85 = .ok (.getfield 9, 3) := dk_180 0 9 (dk_at dksX4_doGo_3 13 rfl rfl)
theorem dX4_doGo_88 : decode cX4_doGo 88 = .ok (.bipush 7, 2) := dk_16 7 (dk_at dksX4_doGo_3 16 rfl rfl)
theorem dX4_doGo_90 : decode cX4_doGo 90 = .ok (.aload_n 0, 1) := dk_42 (dk_at dksX4_doGo_3 18 rfl rfl)
theorem dX4_doGo_91 : decode cX4_doGo 91 = .ok (.iload_n 1, 1) := dk_27 (dk_at dksX4_doGo_3 19 rfl rfl)
theorem dX4_doGo_92 : decode cX4_doGo 92 = .ok (.iconst 0, 1) := dk_3 (dk_at dksX4_doGo_3 20 rfl rfl)
theorem dX4_doGo_93 : decode cX4_doGo 93 = .ok (.invokevirtual 197, 3) := dk_182 0 197 (dk_at dksX4_doGo_3 21 rfl rfl)
theorem dX4_doGo_96 : decode cX4_doGo 96 = .ok (.iastore, 1) := dk_79 (dk_at dksX4_doGo_4 0 rfl rfl)
theorem dX4_doGo_97 : decode cX4_doGo 97 = .ok (.aload_n 0, 1) := dk_42 (dk_at dksX4_doGo_4 1 rfl rfl)
theorem dX4_doGo_98 : decode cX4_doGo 98 = .ok (.getfield 9, 3) := dk_180 0 9 (dk_at dksX4_doGo_4 2 rfl rfl)
theorem dX4_doGo_101 : decode cX4_doGo 101 = .ok (.bipush 8, 2) := dk_16 8 (dk_at dksX4_doGo_4 5 rfl rfl)
theorem dX4_doGo_103 : decode cX4_doGo 103 = .ok (.dup2, 1) := dk_92 (dk_at dksX4_doGo_4 7 rfl rfl)
theorem dX4_doGo_104 : decode cX4_doGo 104 = .ok (.iaload, 1) := dk_46 (dk_at dksX4_doGo_4 8 rfl rfl)
theorem dX4_doGo_105 : decode cX4_doGo 105 = .ok (.iconst 1, 1) := dk_4 (dk_at dksX4_doGo_4 9 rfl rfl)
theorem dX4_doGo_106 : decode cX4_doGo 106 = .ok (.iadd, 1) := dk_96 (dk_at dksX4_doGo_4 10 rfl rfl)
theorem dX4_doGo_107 : decode cX4_doGo 107 = .ok (.iastore, 1) := dk_79 (dk_at dksX4_doGo_4 11 rfl rfl)
theorem dX4_doGo_108 : decode cX4_doGo 108 = .ok (.aload_n 0, 1) := dk_42 (dk_at dksX4_doGo_4 12 rfl rfl)
theorem dX4_doGo_109 : decode cX4_doGo 109 = .ok (.getfield 9, 3) := dk_180 0 9 (dk_at dksX4_doGo_4 13 rfl rfl)
theorem dX4_doGo_112 : decode cX4_doGo 112 = .ok (.bipush 7, 2) := dk_16 7 (dk_at dksX4_doGo_4 16 rfl rfl)
theorem dX4_doGo_114 : decode cX4_doGo 114 = .ok (.iaload, 1) := dk_46 (dk_at dksX4_doGo_4 18 rfl rfl)
theorem dX4_doGo_115 : decode cX4_doGo 115 = .ok (.ireturn, 1) := dk_172 (dk_at dksX4_doGo_4 19 rfl rfl)
abbrev cX4_playable : ByteArray := prog_21_method_64_code
def yX4_playable : MethodName := ⟨RX4, "playable", "()I"⟩
def dkwX4_playable_3 : List UInt8 := [17, 0, 131, 184, 0, 72, 42, 3, 181, 0, 69, 42, 27, 181, 0, 81, 42, 28, 181, 0, 84, 29, 172]
abbrev dktX4_playable_3 : List UInt8 := dkwX4_playable_3 ++ []
def dkwX4_playable_2 : List UInt8 := [132, 3, 1, 42, 182, 0, 203, 54, 4, 167, 255, 240, 42, 180, 0, 16, 3, 42, 180, 0, 9, 3]
abbrev dktX4_playable_2 : List UInt8 := dkwX4_playable_2 ++ dktX4_playable_3
def dkwX4_playable_1 : List UInt8 := [3, 17, 0, 131, 184, 0, 72, 3, 62, 42, 182, 0, 203, 54, 4, 42, 180, 0, 69, 154, 0, 15]
abbrev dktX4_playable_1 : List UInt8 := dkwX4_playable_1 ++ dktX4_playable_2
def dkwX4_playable_0 : List UInt8 := [42, 180, 0, 81, 60, 42, 180, 0, 84, 61, 42, 3, 181, 0, 69, 42, 180, 0, 9, 3, 42, 180, 0, 16]
abbrev dktX4_playable_0 : List UInt8 := dkwX4_playable_0 ++ dktX4_playable_1
theorem dksX4_playable_0 : cX4_playable.data.toList.drop 0 = dktX4_playable_0 := by decide +kernel
theorem dksX4_playable_1 : cX4_playable.data.toList.drop 24 = dktX4_playable_1 := dk_seg dksX4_playable_0 24 rfl rfl
theorem dksX4_playable_2 : cX4_playable.data.toList.drop 46 = dktX4_playable_2 := dk_seg dksX4_playable_1 22 rfl rfl
theorem dksX4_playable_3 : cX4_playable.data.toList.drop 68 = dktX4_playable_3 := dk_seg dksX4_playable_2 22 rfl rfl
theorem dX4_playable_0 : decode cX4_playable 0 = .ok (.aload_n 0, 1) := dk_42 (dk_at dksX4_playable_0 0 rfl rfl)
theorem dX4_playable_1 : decode cX4_playable 1 = .ok (.getfield 81, 3) := dk_180 0 81 (dk_at dksX4_playable_0 1 rfl rfl)
theorem dX4_playable_4 : decode cX4_playable 4 = .ok (.istore_n 1, 1) := dk_60 (dk_at dksX4_playable_0 4 rfl rfl)
theorem dX4_playable_5 : decode cX4_playable 5 = .ok (.aload_n 0, 1) := dk_42 (dk_at dksX4_playable_0 5 rfl rfl)
theorem dX4_playable_6 : decode cX4_playable 6 = .ok (.getfield 84, 3) := dk_180 0 84 (dk_at dksX4_playable_0 6 rfl rfl)
theorem dX4_playable_9 : decode cX4_playable 9 = .ok (.istore_n 2, 1) := dk_61 (dk_at dksX4_playable_0 9 rfl rfl)
theorem dX4_playable_10 : decode cX4_playable 10 = .ok (.aload_n 0, 1) := dk_42 (dk_at dksX4_playable_0 10 rfl rfl)
theorem dX4_playable_11 : decode cX4_playable 11 = .ok (.iconst 0, 1) := dk_3 (dk_at dksX4_playable_0 11 rfl rfl)
theorem dX4_playable_12 : decode cX4_playable 12 = .ok (.putfield 69, 3) := dk_181 0 69 (dk_at dksX4_playable_0 12 rfl rfl)
theorem dX4_playable_15 : decode cX4_playable 15 = .ok (.aload_n 0, 1) := dk_42 (dk_at dksX4_playable_0 15 rfl rfl)
theorem dX4_playable_16 : decode cX4_playable 16 = .ok (.getfield 9, 3) := dk_180 0 9 (dk_at dksX4_playable_0 16 rfl rfl)
theorem dX4_playable_19 : decode cX4_playable 19 = .ok (.iconst 0, 1) := dk_3 (dk_at dksX4_playable_0 19 rfl rfl)
theorem dX4_playable_20 : decode cX4_playable 20 = .ok (.aload_n 0, 1) := dk_42 (dk_at dksX4_playable_0 20 rfl rfl)
theorem dX4_playable_21 : decode cX4_playable 21 = .ok (.getfield 16, 3) := dk_180 0 16 (dk_at dksX4_playable_0 21 rfl rfl)
theorem dX4_playable_24 : decode cX4_playable 24 = .ok (.iconst 0, 1) := dk_3 (dk_at dksX4_playable_1 0 rfl rfl)
theorem dX4_playable_25 : decode cX4_playable 25 = .ok (.sipush 131, 3) := dk_17 0 131 (dk_at dksX4_playable_1 1 rfl rfl)
theorem dX4_playable_28 : decode cX4_playable 28 = .ok (.invokestatic 72, 3) := dk_184 0 72 (dk_at dksX4_playable_1 4 rfl rfl)
theorem dX4_playable_31 : decode cX4_playable 31 = .ok (.iconst 0, 1) := dk_3 (dk_at dksX4_playable_1 7 rfl rfl)
theorem dX4_playable_32 : decode cX4_playable 32 = .ok (.istore_n 3, 1) := dk_62 (dk_at dksX4_playable_1 8 rfl rfl)
theorem dX4_playable_33 : decode cX4_playable 33 = .ok (.aload_n 0, 1) := dk_42 (dk_at dksX4_playable_1 9 rfl rfl)
theorem dX4_playable_34 : decode cX4_playable 34 = .ok (.invokevirtual 203, 3) := dk_182 0 203 (dk_at dksX4_playable_1 10 rfl rfl)
theorem dX4_playable_37 : decode cX4_playable 37 = .ok (.istore 4, 2) := dk_54 4 (dk_at dksX4_playable_1 13 rfl rfl)
theorem dX4_playable_39 : decode cX4_playable 39 = .ok (.aload_n 0, 1) := dk_42 (dk_at dksX4_playable_1 15 rfl rfl)
theorem dX4_playable_40 : decode cX4_playable 40 = .ok (.getfield 69, 3) := dk_180 0 69 (dk_at dksX4_playable_1 16 rfl rfl)
theorem dX4_playable_43 : decode cX4_playable 43 = .ok (.ifCond .ne 15, 3) := dk_154 0 15 (dk_at dksX4_playable_1 19 rfl rfl)
theorem dX4_playable_46 : decode cX4_playable 46 = .ok (.iinc 3 1, 3) := dk_132 3 1 (dk_at dksX4_playable_2 0 rfl rfl)
theorem dX4_playable_49 : decode cX4_playable 49 = .ok (.aload_n 0, 1) := dk_42 (dk_at dksX4_playable_2 3 rfl rfl)
theorem dX4_playable_50 : decode cX4_playable 50 = .ok (.invokevirtual 203, 3) := dk_182 0 203 (dk_at dksX4_playable_2 4 rfl rfl)
theorem dX4_playable_53 : decode cX4_playable 53 = .ok (.istore 4, 2) := dk_54 4 (dk_at dksX4_playable_2 7 rfl rfl)
theorem dX4_playable_55 : decode cX4_playable 55 = .ok (.goto (-16), 3) := dk_167 255 240 (dk_at dksX4_playable_2 9 rfl rfl)
theorem dX4_playable_58 : decode cX4_playable 58 = .ok (.aload_n 0, 1) := dk_42 (dk_at dksX4_playable_2 12 rfl rfl)
theorem dX4_playable_59 : decode cX4_playable 59 = .ok (.getfield 16, 3) := dk_180 0 16 (dk_at dksX4_playable_2 13 rfl rfl)
theorem dX4_playable_62 : decode cX4_playable 62 = .ok (.iconst 0, 1) := dk_3 (dk_at dksX4_playable_2 16 rfl rfl)
theorem dX4_playable_63 : decode cX4_playable 63 = .ok (.aload_n 0, 1) := dk_42 (dk_at dksX4_playable_2 17 rfl rfl)
theorem dX4_playable_64 : decode cX4_playable 64 = .ok (.getfield 9, 3) := dk_180 0 9 (dk_at dksX4_playable_2 18 rfl rfl)
theorem dX4_playable_67 : decode cX4_playable 67 = .ok (.iconst 0, 1) := dk_3 (dk_at dksX4_playable_2 21 rfl rfl)
theorem dX4_playable_68 : decode cX4_playable 68 = .ok (.sipush 131, 3) := dk_17 0 131 (dk_at dksX4_playable_3 0 rfl rfl)
theorem dX4_playable_71 : decode cX4_playable 71 = .ok (.invokestatic 72, 3) := dk_184 0 72 (dk_at dksX4_playable_3 3 rfl rfl)
theorem dX4_playable_74 : decode cX4_playable 74 = .ok (.aload_n 0, 1) := dk_42 (dk_at dksX4_playable_3 6 rfl rfl)
theorem dX4_playable_75 : decode cX4_playable 75 = .ok (.iconst 0, 1) := dk_3 (dk_at dksX4_playable_3 7 rfl rfl)
theorem dX4_playable_76 : decode cX4_playable 76 = .ok (.putfield 69, 3) := dk_181 0 69 (dk_at dksX4_playable_3 8 rfl rfl)
theorem dX4_playable_79 : decode cX4_playable 79 = .ok (.aload_n 0, 1) := dk_42 (dk_at dksX4_playable_3 11 rfl rfl)
theorem dX4_playable_80 : decode cX4_playable 80 = .ok (.iload_n 1, 1) := dk_27 (dk_at dksX4_playable_3 12 rfl rfl)
theorem dX4_playable_81 : decode cX4_playable 81 = .ok (.putfield 81, 3) := dk_181 0 81 (dk_at dksX4_playable_3 13 rfl rfl)
theorem dX4_playable_84 : decode cX4_playable 84 = .ok (.aload_n 0, 1) := dk_42 (dk_at dksX4_playable_3 16 rfl rfl)
theorem dX4_playable_85 : decode cX4_playable 85 = .ok (.iload_n 2, 1) := dk_28 (dk_at dksX4_playable_3 17 rfl rfl)
theorem dX4_playable_86 : decode cX4_playable 86 = .ok (.putfield 84, 3) := dk_181 0 84 (dk_at dksX4_playable_3 18 rfl rfl)
theorem dX4_playable_89 : decode cX4_playable 89 = .ok (.iload_n 3, 1) := dk_29 (dk_at dksX4_playable_3 21 rfl rfl)
theorem dX4_playable_90 : decode cX4_playable 90 = .ok (.ireturn, 1) := dk_172 (dk_at dksX4_playable_3 22 rfl rfl)
abbrev cX4_line : ByteArray := prog_21_method_67_code
def yX4_line : MethodName := ⟨RX4, "line", "(I)I"⟩
def dkwX4_line_5 : List UInt8 := [42, 42, 27, 182, 0, 184, 158, 0, 8, 18, 232, 167, 0, 5, 18, 234, 182, 0, 222, 42, 180, 0, 209, 172]
abbrev dktX4_line_5 : List UInt8 := dkwX4_line_5 ++ []
def dkwX4_line_4 : List UInt8 := [182, 0, 91, 27, 160, 0, 14, 42, 18, 230, 182, 0, 222, 42, 28, 182, 0, 216, 132, 2, 1, 167, 255, 223]
abbrev dktX4_line_4 : List UInt8 := dkwX4_line_4 ++ dktX4_line_5
def dkwX4_line_3 : List UInt8 := [182, 0, 216, 42, 18, 228, 182, 0, 222, 3, 61, 28, 42, 180, 0, 9, 5, 46, 162, 0, 29, 42, 28]
abbrev dktX4_line_3 : List UInt8 := dkwX4_line_3 ++ dktX4_line_4
def dkwX4_line_2 : List UInt8 := [42, 27, 182, 0, 98, 182, 0, 216, 42, 18, 226, 182, 0, 222, 42, 16, 10, 42, 27, 4, 182, 0, 101, 104]
abbrev dktX4_line_2 : List UInt8 := dkwX4_line_2 ++ dktX4_line_3
def dkwX4_line_1 : List UInt8 := [3, 172, 42, 3, 181, 0, 209, 42, 42, 27, 3, 182, 0, 101, 182, 0, 216, 42, 18, 220, 182, 0, 222, 42]
abbrev dktX4_line_1 : List UInt8 := dkwX4_line_1 ++ dktX4_line_2
def dkwX4_line_0 : List UInt8 := [42, 42, 27, 182, 0, 129, 153, 0, 7, 3, 167, 0, 4, 4, 181, 0, 69, 42, 180, 0, 69, 158, 0, 5]
abbrev dktX4_line_0 : List UInt8 := dkwX4_line_0 ++ dktX4_line_1
theorem dksX4_line_0 : cX4_line.data.toList.drop 0 = dktX4_line_0 := by decide +kernel
theorem dksX4_line_1 : cX4_line.data.toList.drop 24 = dktX4_line_1 := dk_seg dksX4_line_0 24 rfl rfl
theorem dksX4_line_2 : cX4_line.data.toList.drop 48 = dktX4_line_2 := dk_seg dksX4_line_1 24 rfl rfl
theorem dksX4_line_3 : cX4_line.data.toList.drop 72 = dktX4_line_3 := dk_seg dksX4_line_2 24 rfl rfl
theorem dksX4_line_4 : cX4_line.data.toList.drop 95 = dktX4_line_4 := dk_seg dksX4_line_3 23 rfl rfl
theorem dksX4_line_5 : cX4_line.data.toList.drop 119 = dktX4_line_5 := dk_seg dksX4_line_4 24 rfl rfl
theorem dX4_line_0 : decode cX4_line 0 = .ok (.aload_n 0, 1) := dk_42 (dk_at dksX4_line_0 0 rfl rfl)
theorem dX4_line_1 : decode cX4_line 1 = .ok (.aload_n 0, 1) := dk_42 (dk_at dksX4_line_0 1 rfl rfl)
theorem dX4_line_2 : decode cX4_line 2 = .ok (.iload_n 1, 1) := dk_27 (dk_at dksX4_line_0 2 rfl rfl)
theorem dX4_line_3 : decode cX4_line 3 = .ok (.invokevirtual 129, 3) := dk_182 0 129 (dk_at dksX4_line_0 3 rfl rfl)
theorem dX4_line_6 : decode cX4_line 6 = .ok (.ifCond .eq 7, 3) := dk_153 0 7 (dk_at dksX4_line_0 6 rfl rfl)
theorem dX4_line_9 : decode cX4_line 9 = .ok (.iconst 0, 1) := dk_3 (dk_at dksX4_line_0 9 rfl rfl)
theorem dX4_line_10 : decode cX4_line 10 = .ok (.goto 4, 3) := dk_167 0 4 (dk_at dksX4_line_0 10 rfl rfl)
theorem dX4_line_13 : decode cX4_line 13 = .ok (.iconst 1, 1) := dk_4 (dk_at dksX4_line_0 13 rfl rfl)
theorem dX4_line_14 : decode cX4_line 14 = .ok (.putfield 69, 3) := dk_181 0 69 (dk_at dksX4_line_0 14 rfl rfl)
theorem dX4_line_17 : decode cX4_line 17 = .ok (.aload_n 0, 1) := dk_42 (dk_at dksX4_line_0 17 rfl rfl)
theorem dX4_line_18 : decode cX4_line 18 = .ok (.getfield 69, 3) := dk_180 0 69 (dk_at dksX4_line_0 18 rfl rfl)
theorem dX4_line_21 : decode cX4_line 21 = .ok (.ifCond .le 5, 3) := dk_158 0 5 (dk_at dksX4_line_0 21 rfl rfl)
theorem dX4_line_24 : decode cX4_line 24 = .ok (.iconst 0, 1) := dk_3 (dk_at dksX4_line_1 0 rfl rfl)
theorem dX4_line_25 : decode cX4_line 25 = .ok (.ireturn, 1) := dk_172 (dk_at dksX4_line_1 1 rfl rfl)
theorem dX4_line_26 : decode cX4_line 26 = .ok (.aload_n 0, 1) := dk_42 (dk_at dksX4_line_1 2 rfl rfl)
theorem dX4_line_27 : decode cX4_line 27 = .ok (.iconst 0, 1) := dk_3 (dk_at dksX4_line_1 3 rfl rfl)
theorem dX4_line_28 : decode cX4_line 28 = .ok (.putfield 209, 3) := dk_181 0 209 (dk_at dksX4_line_1 4 rfl rfl)
theorem dX4_line_31 : decode cX4_line 31 = .ok (.aload_n 0, 1) := dk_42 (dk_at dksX4_line_1 7 rfl rfl)
theorem dX4_line_32 : decode cX4_line 32 = .ok (.aload_n 0, 1) := dk_42 (dk_at dksX4_line_1 8 rfl rfl)
theorem dX4_line_33 : decode cX4_line 33 = .ok (.iload_n 1, 1) := dk_27 (dk_at dksX4_line_1 9 rfl rfl)
theorem dX4_line_34 : decode cX4_line 34 = .ok (.iconst 0, 1) := dk_3 (dk_at dksX4_line_1 10 rfl rfl)
theorem dX4_line_35 : decode cX4_line 35 = .ok (.invokevirtual 101, 3) := dk_182 0 101 (dk_at dksX4_line_1 11 rfl rfl)
theorem dX4_line_38 : decode cX4_line 38 = .ok (.invokevirtual 216, 3) := dk_182 0 216 (dk_at dksX4_line_1 14 rfl rfl)
theorem dX4_line_41 : decode cX4_line 41 = .ok (.aload_n 0, 1) := dk_42 (dk_at dksX4_line_1 17 rfl rfl)
theorem dX4_line_42 : decode cX4_line 42 = .ok (.ldc 220, 2) := dk_18 220 (dk_at dksX4_line_1 18 rfl rfl)
theorem dX4_line_44 : decode cX4_line 44 = .ok (.invokevirtual 222, 3) := dk_182 0 222 (dk_at dksX4_line_1 20 rfl rfl)
theorem dX4_line_47 : decode cX4_line 47 = .ok (.aload_n 0, 1) := dk_42 (dk_at dksX4_line_1 23 rfl rfl)
theorem dX4_line_48 : decode cX4_line 48 = .ok (.aload_n 0, 1) := dk_42 (dk_at dksX4_line_2 0 rfl rfl)
theorem dX4_line_49 : decode cX4_line 49 = .ok (.iload_n 1, 1) := dk_27 (dk_at dksX4_line_2 1 rfl rfl)
theorem dX4_line_50 : decode cX4_line 50 = .ok (.invokevirtual 98, 3) := dk_182 0 98 (dk_at dksX4_line_2 2 rfl rfl)
theorem dX4_line_53 : decode cX4_line 53 = .ok (.invokevirtual 216, 3) := dk_182 0 216 (dk_at dksX4_line_2 5 rfl rfl)
theorem dX4_line_56 : decode cX4_line 56 = .ok (.aload_n 0, 1) := dk_42 (dk_at dksX4_line_2 8 rfl rfl)
theorem dX4_line_57 : decode cX4_line 57 = .ok (.ldc 226, 2) := dk_18 226 (dk_at dksX4_line_2 9 rfl rfl)
theorem dX4_line_59 : decode cX4_line 59 = .ok (.invokevirtual 222, 3) := dk_182 0 222 (dk_at dksX4_line_2 11 rfl rfl)
theorem dX4_line_62 : decode cX4_line 62 = .ok (.aload_n 0, 1) := dk_42 (dk_at dksX4_line_2 14 rfl rfl)
theorem dX4_line_63 : decode cX4_line 63 = .ok (.bipush 10, 2) := dk_16 10 (dk_at dksX4_line_2 15 rfl rfl)
theorem dX4_line_65 : decode cX4_line 65 = .ok (.aload_n 0, 1) := dk_42 (dk_at dksX4_line_2 17 rfl rfl)
theorem dX4_line_66 : decode cX4_line 66 = .ok (.iload_n 1, 1) := dk_27 (dk_at dksX4_line_2 18 rfl rfl)
theorem dX4_line_67 : decode cX4_line 67 = .ok (.iconst 1, 1) := dk_4 (dk_at dksX4_line_2 19 rfl rfl)
theorem dX4_line_68 : decode cX4_line 68 = .ok (.invokevirtual 101, 3) := dk_182 0 101 (dk_at dksX4_line_2 20 rfl rfl)
theorem dX4_line_71 : decode cX4_line 71 = .ok (.imul, 1) := dk_104 (dk_at dksX4_line_2 23 rfl rfl)
theorem dX4_line_72 : decode cX4_line 72 = .ok (.invokevirtual 216, 3) := dk_182 0 216 (dk_at dksX4_line_3 0 rfl rfl)
theorem dX4_line_75 : decode cX4_line 75 = .ok (.aload_n 0, 1) := dk_42 (dk_at dksX4_line_3 3 rfl rfl)
theorem dX4_line_76 : decode cX4_line 76 = .ok (.ldc 228, 2) := dk_18 228 (dk_at dksX4_line_3 4 rfl rfl)
theorem dX4_line_78 : decode cX4_line 78 = .ok (.invokevirtual 222, 3) := dk_182 0 222 (dk_at dksX4_line_3 6 rfl rfl)
theorem dX4_line_81 : decode cX4_line 81 = .ok (.iconst 0, 1) := dk_3 (dk_at dksX4_line_3 9 rfl rfl)
theorem dX4_line_82 : decode cX4_line 82 = .ok (.istore_n 2, 1) := dk_61 (dk_at dksX4_line_3 10 rfl rfl)
theorem dX4_line_83 : decode cX4_line 83 = .ok (.iload_n 2, 1) := dk_28 (dk_at dksX4_line_3 11 rfl rfl)
theorem dX4_line_84 : decode cX4_line 84 = .ok (.aload_n 0, 1) := dk_42 (dk_at dksX4_line_3 12 rfl rfl)
theorem dX4_line_85 : decode cX4_line 85 = .ok (.getfield 9, 3) := dk_180 0 9 (dk_at dksX4_line_3 13 rfl rfl)
theorem dX4_line_88 : decode cX4_line 88 = .ok (.iconst 2, 1) := dk_5 (dk_at dksX4_line_3 16 rfl rfl)
theorem dX4_line_89 : decode cX4_line 89 = .ok (.iaload, 1) := dk_46 (dk_at dksX4_line_3 17 rfl rfl)
theorem dX4_line_90 : decode cX4_line 90 = .ok (.if_icmp .ge 29, 3) := dk_162 0 29 (dk_at dksX4_line_3 18 rfl rfl)
theorem dX4_line_93 : decode cX4_line 93 = .ok (.aload_n 0, 1) := dk_42 (dk_at dksX4_line_3 21 rfl rfl)
theorem dX4_line_94 : decode cX4_line 94 = .ok (.iload_n 2, 1) := dk_28 (dk_at dksX4_line_3 22 rfl rfl)
theorem dX4_line_95 : decode cX4_line 95 = .ok (.invokevirtual 91, 3) := dk_182 0 91 (dk_at dksX4_line_4 0 rfl rfl)
theorem dX4_line_98 : decode cX4_line 98 = .ok (.iload_n 1, 1) := dk_27 (dk_at dksX4_line_4 3 rfl rfl)
theorem dX4_line_99 : decode cX4_line 99 = .ok (.if_icmp .ne 14, 3) := dk_160 0 14 (dk_at dksX4_line_4 4 rfl rfl)
theorem dX4_line_102 : decode cX4_line 102 = .ok (.aload_n 0, 1) := dk_42 (dk_at dksX4_line_4 7 rfl rfl)
theorem dX4_line_103 : decode cX4_line 103 = .ok (.ldc 230, 2) := dk_18 230 (dk_at dksX4_line_4 8 rfl rfl)
theorem dX4_line_105 : decode cX4_line 105 = .ok (.invokevirtual 222, 3) := dk_182 0 222 (dk_at dksX4_line_4 10 rfl rfl)
theorem dX4_line_108 : decode cX4_line 108 = .ok (.aload_n 0, 1) := dk_42 (dk_at dksX4_line_4 13 rfl rfl)
theorem dX4_line_109 : decode cX4_line 109 = .ok (.iload_n 2, 1) := dk_28 (dk_at dksX4_line_4 14 rfl rfl)
theorem dX4_line_110 : decode cX4_line 110 = .ok (.invokevirtual 216, 3) := dk_182 0 216 (dk_at dksX4_line_4 15 rfl rfl)
theorem dX4_line_113 : decode cX4_line 113 = .ok (.iinc 2 1, 3) := dk_132 2 1 (dk_at dksX4_line_4 18 rfl rfl)
theorem dX4_line_116 : decode cX4_line 116 = .ok (.goto (-33), 3) := dk_167 255 223 (dk_at dksX4_line_4 21 rfl rfl)
theorem dX4_line_119 : decode cX4_line 119 = .ok (.aload_n 0, 1) := dk_42 (dk_at dksX4_line_5 0 rfl rfl)
theorem dX4_line_120 : decode cX4_line 120 = .ok (.aload_n 0, 1) := dk_42 (dk_at dksX4_line_5 1 rfl rfl)
theorem dX4_line_121 : decode cX4_line 121 = .ok (.iload_n 1, 1) := dk_27 (dk_at dksX4_line_5 2 rfl rfl)
theorem dX4_line_122 : decode cX4_line 122 = .ok (.invokevirtual 184, 3) := dk_182 0 184 (dk_at dksX4_line_5 3 rfl rfl)
theorem dX4_line_125 : decode cX4_line 125 = .ok (.ifCond .le 8, 3) := dk_158 0 8 (dk_at dksX4_line_5 6 rfl rfl)
theorem dX4_line_128 : decode cX4_line 128 = .ok (.ldc 232, 2) := dk_18 232 (dk_at dksX4_line_5 9 rfl rfl)
theorem dX4_line_130 : decode cX4_line 130 = .ok (.goto 5, 3) := dk_167 0 5 (dk_at dksX4_line_5 11 rfl rfl)
theorem dX4_line_133 : decode cX4_line 133 = .ok (.ldc 234, 2) := dk_18 234 (dk_at dksX4_line_5 14 rfl rfl)
theorem dX4_line_135 : decode cX4_line 135 = .ok (.invokevirtual 222, 3) := dk_182 0 222 (dk_at dksX4_line_5 16 rfl rfl)
theorem dX4_line_138 : decode cX4_line 138 = .ok (.aload_n 0, 1) := dk_42 (dk_at dksX4_line_5 19 rfl rfl)
theorem dX4_line_139 : decode cX4_line 139 = .ok (.getfield 209, 3) := dk_180 0 209 (dk_at dksX4_line_5 20 rfl rfl)
theorem dX4_line_142 : decode cX4_line 142 = .ok (.ireturn, 1) := dk_172 (dk_at dksX4_line_5 23 rfl rfl)
abbrev cX4_saysNumber : ByteArray := prog_21_method_66_code
def yX4_saysNumber : MethodName := ⟨RX4, "saysNumber", "(I)V"⟩
def dkwX4_saysNumber_1 : List UInt8 := [27, 16, 10, 112, 96, 146, 85, 42, 89, 180, 0, 209, 4, 96, 181, 0, 209, 177]
abbrev dktX4_saysNumber_1 : List UInt8 := dkwX4_saysNumber_1 ++ []
def dkwX4_saysNumber_0 : List UInt8 := [27, 16, 9, 164, 0, 11, 42, 27, 16, 10, 108, 182, 0, 216, 42, 180, 0, 25, 42, 180, 0, 209, 16, 48]
abbrev dktX4_saysNumber_0 : List UInt8 := dkwX4_saysNumber_0 ++ dktX4_saysNumber_1
theorem dksX4_saysNumber_0 : cX4_saysNumber.data.toList.drop 0 = dktX4_saysNumber_0 := by decide +kernel
theorem dksX4_saysNumber_1 : cX4_saysNumber.data.toList.drop 24 = dktX4_saysNumber_1 := dk_seg dksX4_saysNumber_0 24 rfl rfl
theorem dX4_saysNumber_0 : decode cX4_saysNumber 0 = .ok (.iload_n 1, 1) := dk_27 (dk_at dksX4_saysNumber_0 0 rfl rfl)
theorem dX4_saysNumber_1 : decode cX4_saysNumber 1 = .ok (.bipush 9, 2) := dk_16 9 (dk_at dksX4_saysNumber_0 1 rfl rfl)
theorem dX4_saysNumber_3 : decode cX4_saysNumber 3 = .ok (.if_icmp .le 11, 3) := dk_164 0 11 (dk_at dksX4_saysNumber_0 3 rfl rfl)
theorem dX4_saysNumber_6 : decode cX4_saysNumber 6 = .ok (.aload_n 0, 1) := dk_42 (dk_at dksX4_saysNumber_0 6 rfl rfl)
theorem dX4_saysNumber_7 : decode cX4_saysNumber 7 = .ok (.iload_n 1, 1) := dk_27 (dk_at dksX4_saysNumber_0 7 rfl rfl)
theorem dX4_saysNumber_8 : decode cX4_saysNumber 8 = .ok (.bipush 10, 2) := dk_16 10 (dk_at dksX4_saysNumber_0 8 rfl rfl)
theorem dX4_saysNumber_10 : decode cX4_saysNumber 10 = .ok (.idiv, 1) := dk_108 (dk_at dksX4_saysNumber_0 10 rfl rfl)
theorem dX4_saysNumber_11 : decode cX4_saysNumber 11 = .ok (.invokevirtual 216, 3) := dk_182 0 216 (dk_at dksX4_saysNumber_0 11 rfl rfl)
theorem dX4_saysNumber_14 : decode cX4_saysNumber 14 = .ok (.aload_n 0, 1) := dk_42 (dk_at dksX4_saysNumber_0 14 rfl rfl)
theorem dX4_saysNumber_15 : decode cX4_saysNumber 15 = .ok (.getfield 25, 3) := dk_180 0 25 (dk_at dksX4_saysNumber_0 15 rfl rfl)
theorem dX4_saysNumber_18 : decode cX4_saysNumber 18 = .ok (.aload_n 0, 1) := dk_42 (dk_at dksX4_saysNumber_0 18 rfl rfl)
theorem dX4_saysNumber_19 : decode cX4_saysNumber 19 = .ok (.getfield 209, 3) := dk_180 0 209 (dk_at dksX4_saysNumber_0 19 rfl rfl)
theorem dX4_saysNumber_22 : decode cX4_saysNumber 22 = .ok (.bipush 48, 2) := dk_16 48 (dk_at dksX4_saysNumber_0 22 rfl rfl)
theorem dX4_saysNumber_24 : decode cX4_saysNumber 24 = .ok (.iload_n 1, 1) := dk_27 (dk_at dksX4_saysNumber_1 0 rfl rfl)
theorem dX4_saysNumber_25 : decode cX4_saysNumber 25 = .ok (.bipush 10, 2) := dk_16 10 (dk_at dksX4_saysNumber_1 1 rfl rfl)
theorem dX4_saysNumber_27 : decode cX4_saysNumber 27 = .ok (.irem, 1) := dk_112 (dk_at dksX4_saysNumber_1 3 rfl rfl)
theorem dX4_saysNumber_28 : decode cX4_saysNumber 28 = .ok (.iadd, 1) := dk_96 (dk_at dksX4_saysNumber_1 4 rfl rfl)
theorem dX4_saysNumber_29 : decode cX4_saysNumber 29 = .ok (.i2c, 1) := dk_146 (dk_at dksX4_saysNumber_1 5 rfl rfl)
theorem dX4_saysNumber_30 : decode cX4_saysNumber 30 = .ok (.castore, 1) := dk_85 (dk_at dksX4_saysNumber_1 6 rfl rfl)
theorem dX4_saysNumber_31 : decode cX4_saysNumber 31 = .ok (.aload_n 0, 1) := dk_42 (dk_at dksX4_saysNumber_1 7 rfl rfl)
theorem dX4_saysNumber_32 : decode cX4_saysNumber 32 = .ok (.dup, 1) := dk_89 (dk_at dksX4_saysNumber_1 8 rfl rfl)
theorem dX4_saysNumber_33 : decode cX4_saysNumber 33 = .ok (.getfield 209, 3) := dk_180 0 209 (dk_at dksX4_saysNumber_1 9 rfl rfl)
theorem dX4_saysNumber_36 : decode cX4_saysNumber 36 = .ok (.iconst 1, 1) := dk_4 (dk_at dksX4_saysNumber_1 12 rfl rfl)
theorem dX4_saysNumber_37 : decode cX4_saysNumber 37 = .ok (.iadd, 1) := dk_96 (dk_at dksX4_saysNumber_1 13 rfl rfl)
theorem dX4_saysNumber_38 : decode cX4_saysNumber 38 = .ok (.putfield 209, 3) := dk_181 0 209 (dk_at dksX4_saysNumber_1 14 rfl rfl)
theorem dX4_saysNumber_41 : decode cX4_saysNumber 41 = .ok (.return_, 1) := dk_177 (dk_at dksX4_saysNumber_1 17 rfl rfl)
abbrev cX4_says : ByteArray := prog_21_method_65_code
def yX4_says : MethodName := ⟨RX4, "says", "(Ljava/lang/String;)V"⟩
def dkwX4_says_1 : List UInt8 := [42, 89, 180, 0, 209, 4, 96, 181, 0, 209, 132, 2, 1, 167, 255, 221, 177]
abbrev dktX4_says_1 : List UInt8 := dkwX4_says_1 ++ []
def dkwX4_says_0 : List UInt8 := [3, 61, 28, 43, 182, 0, 206, 162, 0, 33, 42, 180, 0, 25, 42, 180, 0, 209, 43, 28, 182, 0, 212, 85]
abbrev dktX4_says_0 : List UInt8 := dkwX4_says_0 ++ dktX4_says_1
theorem dksX4_says_0 : cX4_says.data.toList.drop 0 = dktX4_says_0 := by decide +kernel
theorem dksX4_says_1 : cX4_says.data.toList.drop 24 = dktX4_says_1 := dk_seg dksX4_says_0 24 rfl rfl
theorem dX4_says_0 : decode cX4_says 0 = .ok (.iconst 0, 1) := dk_3 (dk_at dksX4_says_0 0 rfl rfl)
theorem dX4_says_1 : decode cX4_says 1 = .ok (.istore_n 2, 1) := dk_61 (dk_at dksX4_says_0 1 rfl rfl)
theorem dX4_says_2 : decode cX4_says 2 = .ok (.iload_n 2, 1) := dk_28 (dk_at dksX4_says_0 2 rfl rfl)
theorem dX4_says_3 : decode cX4_says 3 = .ok (.aload_n 1, 1) := dk_43 (dk_at dksX4_says_0 3 rfl rfl)
theorem dX4_says_4 : decode cX4_says 4 = .ok (.invokevirtual 206, 3) := dk_182 0 206 (dk_at dksX4_says_0 4 rfl rfl)
theorem dX4_says_7 : decode cX4_says 7 = .ok (.if_icmp .ge 33, 3) := dk_162 0 33 (dk_at dksX4_says_0 7 rfl rfl)
theorem dX4_says_10 : decode cX4_says 10 = .ok (.aload_n 0, 1) := dk_42 (dk_at dksX4_says_0 10 rfl rfl)
theorem dX4_says_11 : decode cX4_says 11 = .ok (.getfield 25, 3) := dk_180 0 25 (dk_at dksX4_says_0 11 rfl rfl)
theorem dX4_says_14 : decode cX4_says 14 = .ok (.aload_n 0, 1) := dk_42 (dk_at dksX4_says_0 14 rfl rfl)
theorem dX4_says_15 : decode cX4_says 15 = .ok (.getfield 209, 3) := dk_180 0 209 (dk_at dksX4_says_0 15 rfl rfl)
theorem dX4_says_18 : decode cX4_says 18 = .ok (.aload_n 1, 1) := dk_43 (dk_at dksX4_says_0 18 rfl rfl)
theorem dX4_says_19 : decode cX4_says 19 = .ok (.iload_n 2, 1) := dk_28 (dk_at dksX4_says_0 19 rfl rfl)
theorem dX4_says_20 : decode cX4_says 20 = .ok (.invokevirtual 212, 3) := dk_182 0 212 (dk_at dksX4_says_0 20 rfl rfl)
theorem dX4_says_23 : decode cX4_says 23 = .ok (.castore, 1) := dk_85 (dk_at dksX4_says_0 23 rfl rfl)
theorem dX4_says_24 : decode cX4_says 24 = .ok (.aload_n 0, 1) := dk_42 (dk_at dksX4_says_1 0 rfl rfl)
theorem dX4_says_25 : decode cX4_says 25 = .ok (.dup, 1) := dk_89 (dk_at dksX4_says_1 1 rfl rfl)
theorem dX4_says_26 : decode cX4_says 26 = .ok (.getfield 209, 3) := dk_180 0 209 (dk_at dksX4_says_1 2 rfl rfl)
theorem dX4_says_29 : decode cX4_says 29 = .ok (.iconst 1, 1) := dk_4 (dk_at dksX4_says_1 5 rfl rfl)
theorem dX4_says_30 : decode cX4_says 30 = .ok (.iadd, 1) := dk_96 (dk_at dksX4_says_1 6 rfl rfl)
theorem dX4_says_31 : decode cX4_says 31 = .ok (.putfield 209, 3) := dk_181 0 209 (dk_at dksX4_says_1 7 rfl rfl)
theorem dX4_says_34 : decode cX4_says 34 = .ok (.iinc 2 1, 3) := dk_132 2 1 (dk_at dksX4_says_1 10 rfl rfl)
theorem dX4_says_37 : decode cX4_says 37 = .ok (.goto (-35), 3) := dk_167 255 221 (dk_at dksX4_says_1 13 rfl rfl)
theorem dX4_says_40 : decode cX4_says 40 = .ok (.return_, 1) := dk_177 (dk_at dksX4_says_1 16 rfl rfl)
abbrev cX4_cueLine : ByteArray := prog_21_method_68_code
def yX4_cueLine : MethodName := ⟨RX4, "cueLine", "()I"⟩
def dkwX4_cueLine_5 : List UInt8 := [182, 0, 222, 42, 180, 0, 209, 172]
abbrev dktX4_cueLine_5 : List UInt8 := dkwX4_cueLine_5 ++ []
def dkwX4_cueLine_4 : List UInt8 := [182, 0, 222, 132, 1, 1, 167, 255, 167, 42, 42, 180, 0, 209, 154, 0, 8, 18, 244, 167, 0, 5, 18, 234]
abbrev dktX4_cueLine_4 : List UInt8 := dkwX4_cueLine_4 ++ dktX4_cueLine_5
def dkwX4_cueLine_3 : List UInt8 := [5, 182, 0, 197, 182, 0, 216, 42, 27, 42, 182, 0, 200, 160, 0, 8, 18, 242, 167, 0, 5, 18, 234]
abbrev dktX4_cueLine_3 : List UInt8 := dkwX4_cueLine_3 ++ dktX4_cueLine_4
def dkwX4_cueLine_2 : List UInt8 := [18, 238, 182, 0, 222, 42, 42, 27, 4, 182, 0, 197, 182, 0, 216, 42, 18, 240, 182, 0, 222, 42, 42, 27]
abbrev dktX4_cueLine_2 : List UInt8 := dkwX4_cueLine_2 ++ dktX4_cueLine_3
def dkwX4_cueLine_1 : List UInt8 := [158, 0, 8, 18, 236, 167, 0, 5, 18, 234, 182, 0, 222, 42, 42, 27, 3, 182, 0, 197, 182, 0, 216, 42]
abbrev dktX4_cueLine_1 : List UInt8 := dkwX4_cueLine_1 ++ dktX4_cueLine_2
def dkwX4_cueLine_0 : List UInt8 := [42, 3, 181, 0, 69, 42, 3, 181, 0, 209, 3, 60, 27, 42, 180, 0, 9, 7, 46, 162, 0, 85, 42, 27]
abbrev dktX4_cueLine_0 : List UInt8 := dkwX4_cueLine_0 ++ dktX4_cueLine_1
theorem dksX4_cueLine_0 : cX4_cueLine.data.toList.drop 0 = dktX4_cueLine_0 := by decide +kernel
theorem dksX4_cueLine_1 : cX4_cueLine.data.toList.drop 24 = dktX4_cueLine_1 := dk_seg dksX4_cueLine_0 24 rfl rfl
theorem dksX4_cueLine_2 : cX4_cueLine.data.toList.drop 48 = dktX4_cueLine_2 := dk_seg dksX4_cueLine_1 24 rfl rfl
theorem dksX4_cueLine_3 : cX4_cueLine.data.toList.drop 72 = dktX4_cueLine_3 := dk_seg dksX4_cueLine_2 24 rfl rfl
theorem dksX4_cueLine_4 : cX4_cueLine.data.toList.drop 95 = dktX4_cueLine_4 := dk_seg dksX4_cueLine_3 23 rfl rfl
theorem dksX4_cueLine_5 : cX4_cueLine.data.toList.drop 119 = dktX4_cueLine_5 := dk_seg dksX4_cueLine_4 24 rfl rfl
theorem dX4_cueLine_0 : decode cX4_cueLine 0 = .ok (.aload_n 0, 1) := dk_42 (dk_at dksX4_cueLine_0 0 rfl rfl)
theorem dX4_cueLine_1 : decode cX4_cueLine 1 = .ok (.iconst 0, 1) := dk_3 (dk_at dksX4_cueLine_0 1 rfl rfl)
theorem dX4_cueLine_2 : decode cX4_cueLine 2 = .ok (.putfield 69, 3) := dk_181 0 69 (dk_at dksX4_cueLine_0 2 rfl rfl)
theorem dX4_cueLine_5 : decode cX4_cueLine 5 = .ok (.aload_n 0, 1) := dk_42 (dk_at dksX4_cueLine_0 5 rfl rfl)
theorem dX4_cueLine_6 : decode cX4_cueLine 6 = .ok (.iconst 0, 1) := dk_3 (dk_at dksX4_cueLine_0 6 rfl rfl)
theorem dX4_cueLine_7 : decode cX4_cueLine 7 = .ok (.putfield 209, 3) := dk_181 0 209 (dk_at dksX4_cueLine_0 7 rfl rfl)
theorem dX4_cueLine_10 : decode cX4_cueLine 10 = .ok (.iconst 0, 1) := dk_3 (dk_at dksX4_cueLine_0 10 rfl rfl)
theorem dX4_cueLine_11 : decode cX4_cueLine 11 = .ok (.istore_n 1, 1) := dk_60 (dk_at dksX4_cueLine_0 11 rfl rfl)
theorem dX4_cueLine_12 : decode cX4_cueLine 12 = .ok (.iload_n 1, 1) := dk_27 (dk_at dksX4_cueLine_0 12 rfl rfl)
theorem dX4_cueLine_13 : decode cX4_cueLine 13 = .ok (.aload_n 0, 1) := dk_42 (dk_at dksX4_cueLine_0 13 rfl rfl)
theorem dX4_cueLine_14 : decode cX4_cueLine 14 = .ok (.getfield 9, 3) := dk_180 0 9 (dk_at dksX4_cueLine_0 14 rfl rfl)
theorem dX4_cueLine_17 : decode cX4_cueLine 17 = .ok (.iconst 4, 1) := dk_7 (dk_at dksX4_cueLine_0 17 rfl rfl)
theorem dX4_cueLine_18 : decode cX4_cueLine 18 = .ok (.iaload, 1) := dk_46 (dk_at dksX4_cueLine_0 18 rfl rfl)
theorem dX4_cueLine_19 : decode cX4_cueLine 19 = .ok (.if_icmp .ge 85, 3) := dk_162 0 85 (dk_at dksX4_cueLine_0 19 rfl rfl)
theorem dX4_cueLine_22 : decode cX4_cueLine 22 = .ok (.aload_n 0, 1) := dk_42 (dk_at dksX4_cueLine_0 22 rfl rfl)
theorem dX4_cueLine_23 : decode cX4_cueLine 23 = .ok (.iload_n 1, 1) := dk_27 (dk_at dksX4_cueLine_0 23 rfl rfl)
theorem dX4_cueLine_24 : decode cX4_cueLine 24 = .ok (.ifCond .le 8, 3) := dk_158 0 8 (dk_at dksX4_cueLine_1 0 rfl rfl)
theorem dX4_cueLine_27 : decode cX4_cueLine 27 = .ok (.ldc 236, 2) := dk_18 236 (dk_at dksX4_cueLine_1 3 rfl rfl)
theorem dX4_cueLine_29 : decode cX4_cueLine 29 = .ok (.goto 5, 3) := dk_167 0 5 (dk_at dksX4_cueLine_1 5 rfl rfl)
theorem dX4_cueLine_32 : decode cX4_cueLine 32 = .ok (.ldc 234, 2) := dk_18 234 (dk_at dksX4_cueLine_1 8 rfl rfl)
theorem dX4_cueLine_34 : decode cX4_cueLine 34 = .ok (.invokevirtual 222, 3) := dk_182 0 222 (dk_at dksX4_cueLine_1 10 rfl rfl)
theorem dX4_cueLine_37 : decode cX4_cueLine 37 = .ok (.aload_n 0, 1) := dk_42 (dk_at dksX4_cueLine_1 13 rfl rfl)
theorem dX4_cueLine_38 : decode cX4_cueLine 38 = .ok (.aload_n 0, 1) := dk_42 (dk_at dksX4_cueLine_1 14 rfl rfl)
theorem dX4_cueLine_39 : decode cX4_cueLine 39 = .ok (.iload_n 1, 1) := dk_27 (dk_at dksX4_cueLine_1 15 rfl rfl)
theorem dX4_cueLine_40 : decode cX4_cueLine 40 = .ok (.iconst 0, 1) := dk_3 (dk_at dksX4_cueLine_1 16 rfl rfl)
theorem dX4_cueLine_41 : decode cX4_cueLine 41 = .ok (.invokevirtual 197, 3) := dk_182 0 197 (dk_at dksX4_cueLine_1 17 rfl rfl)
theorem dX4_cueLine_44 : decode cX4_cueLine 44 = .ok (.invokevirtual 216, 3) := dk_182 0 216 (dk_at dksX4_cueLine_1 20 rfl rfl)
theorem dX4_cueLine_47 : decode cX4_cueLine 47 = .ok (.aload_n 0, 1) := dk_42 (dk_at dksX4_cueLine_1 23 rfl rfl)
theorem dX4_cueLine_48 : decode cX4_cueLine 48 = .ok (.ldc 238, 2) := dk_18 238 (dk_at dksX4_cueLine_2 0 rfl rfl)
theorem dX4_cueLine_50 : decode cX4_cueLine 50 = .ok (.invokevirtual 222, 3) := dk_182 0 222 (dk_at dksX4_cueLine_2 2 rfl rfl)
theorem dX4_cueLine_53 : decode cX4_cueLine 53 = .ok (.aload_n 0, 1) := dk_42 (dk_at dksX4_cueLine_2 5 rfl rfl)
theorem dX4_cueLine_54 : decode cX4_cueLine 54 = .ok (.aload_n 0, 1) := dk_42 (dk_at dksX4_cueLine_2 6 rfl rfl)
theorem dX4_cueLine_55 : decode cX4_cueLine 55 = .ok (.iload_n 1, 1) := dk_27 (dk_at dksX4_cueLine_2 7 rfl rfl)
theorem dX4_cueLine_56 : decode cX4_cueLine 56 = .ok (.iconst 1, 1) := dk_4 (dk_at dksX4_cueLine_2 8 rfl rfl)
theorem dX4_cueLine_57 : decode cX4_cueLine 57 = .ok (.invokevirtual 197, 3) := dk_182 0 197 (dk_at dksX4_cueLine_2 9 rfl rfl)
theorem dX4_cueLine_60 : decode cX4_cueLine 60 = .ok (.invokevirtual 216, 3) := dk_182 0 216 (dk_at dksX4_cueLine_2 12 rfl rfl)
theorem dX4_cueLine_63 : decode cX4_cueLine 63 = .ok (.aload_n 0, 1) := dk_42 (dk_at dksX4_cueLine_2 15 rfl rfl)
theorem dX4_cueLine_64 : decode cX4_cueLine 64 = .ok (.ldc 240, 2) := dk_18 240 (dk_at dksX4_cueLine_2 16 rfl rfl)
theorem dX4_cueLine_66 : decode cX4_cueLine 66 = .ok (.invokevirtual 222, 3) := dk_182 0 222 (dk_at dksX4_cueLine_2 18 rfl rfl)
theorem dX4_cueLine_69 : decode cX4_cueLine 69 = .ok (.aload_n 0, 1) := dk_42 (dk_at dksX4_cueLine_2 21 rfl rfl)
theorem dX4_cueLine_70 : decode cX4_cueLine 70 = .ok (.aload_n 0, 1) := dk_42 (dk_at dksX4_cueLine_2 22 rfl rfl)
theorem dX4_cueLine_71 : decode cX4_cueLine 71 = .ok (.iload_n 1, 1) := dk_27 (dk_at dksX4_cueLine_2 23 rfl rfl)
theorem dX4_cueLine_72 : decode cX4_cueLine 72 = .ok (.iconst 2, 1) := dk_5 (dk_at dksX4_cueLine_3 0 rfl rfl)
theorem dX4_cueLine_73 : decode cX4_cueLine 73 = .ok (.invokevirtual 197, 3) := dk_182 0 197 (dk_at dksX4_cueLine_3 1 rfl rfl)
theorem dX4_cueLine_76 : decode cX4_cueLine 76 = .ok (.invokevirtual 216, 3) := dk_182 0 216 (dk_at dksX4_cueLine_3 4 rfl rfl)
theorem dX4_cueLine_79 : decode cX4_cueLine 79 = .ok (.aload_n 0, 1) := dk_42 (dk_at dksX4_cueLine_3 7 rfl rfl)
theorem dX4_cueLine_80 : decode cX4_cueLine 80 = .ok (.iload_n 1, 1) := dk_27 (dk_at dksX4_cueLine_3 8 rfl rfl)
theorem dX4_cueLine_81 : decode cX4_cueLine 81 = .ok (.aload_n 0, 1) := dk_42 (dk_at dksX4_cueLine_3 9 rfl rfl)
theorem dX4_cueLine_82 : decode cX4_cueLine 82 = .ok (.invokevirtual 200, 3) := dk_182 0 200 (dk_at dksX4_cueLine_3 10 rfl rfl)
theorem dX4_cueLine_85 : decode cX4_cueLine 85 = .ok (.if_icmp .ne 8, 3) := dk_160 0 8 (dk_at dksX4_cueLine_3 13 rfl rfl)
theorem dX4_cueLine_88 : decode cX4_cueLine 88 = .ok (.ldc 242, 2) := dk_18 242 (dk_at dksX4_cueLine_3 16 rfl rfl)
theorem dX4_cueLine_90 : decode cX4_cueLine 90 = .ok (.goto 5, 3) := dk_167 0 5 (dk_at dksX4_cueLine_3 18 rfl rfl)
theorem dX4_cueLine_93 : decode cX4_cueLine 93 = .ok (.ldc 234, 2) := dk_18 234 (dk_at dksX4_cueLine_3 21 rfl rfl)
theorem dX4_cueLine_95 : decode cX4_cueLine 95 = .ok (.invokevirtual 222, 3) := dk_182 0 222 (dk_at dksX4_cueLine_4 0 rfl rfl)
theorem dX4_cueLine_98 : decode cX4_cueLine 98 = .ok (.iinc 1 1, 3) := dk_132 1 1 (dk_at dksX4_cueLine_4 3 rfl rfl)
theorem dX4_cueLine_101 : decode cX4_cueLine 101 = .ok (.goto (-89), 3) := dk_167 255 167 (dk_at dksX4_cueLine_4 6 rfl rfl)
theorem dX4_cueLine_104 : decode cX4_cueLine 104 = .ok (.aload_n 0, 1) := dk_42 (dk_at dksX4_cueLine_4 9 rfl rfl)
theorem dX4_cueLine_105 : decode cX4_cueLine 105 = .ok (.aload_n 0, 1) := dk_42 (dk_at dksX4_cueLine_4 10 rfl rfl)
theorem dX4_cueLine_106 : decode cX4_cueLine 106 = .ok (.getfield 209, 3) := dk_180 0 209 (dk_at dksX4_cueLine_4 11 rfl rfl)
theorem dX4_cueLine_109 : decode cX4_cueLine 109 = .ok (.ifCond .ne 8, 3) := dk_154 0 8 (dk_at dksX4_cueLine_4 14 rfl rfl)
theorem dX4_cueLine_112 : decode cX4_cueLine 112 = .ok (.ldc 244, 2) := dk_18 244 (dk_at dksX4_cueLine_4 17 rfl rfl)
theorem dX4_cueLine_114 : decode cX4_cueLine 114 = .ok (.goto 5, 3) := dk_167 0 5 (dk_at dksX4_cueLine_4 19 rfl rfl)
theorem dX4_cueLine_117 : decode cX4_cueLine 117 = .ok (.ldc 234, 2) := dk_18 234 (dk_at dksX4_cueLine_4 22 rfl rfl)
theorem dX4_cueLine_119 : decode cX4_cueLine 119 = .ok (.invokevirtual 222, 3) := dk_182 0 222 (dk_at dksX4_cueLine_5 0 rfl rfl)
theorem dX4_cueLine_122 : decode cX4_cueLine 122 = .ok (.aload_n 0, 1) := dk_42 (dk_at dksX4_cueLine_5 3 rfl rfl)
theorem dX4_cueLine_123 : decode cX4_cueLine 123 = .ok (.getfield 209, 3) := dk_180 0 209 (dk_at dksX4_cueLine_5 4 rfl rfl)
theorem dX4_cueLine_126 : decode cX4_cueLine 126 = .ok (.ireturn, 1) := dk_172 (dk_at dksX4_cueLine_5 7 rfl rfl)
abbrev cX4_character : ByteArray := prog_21_method_69_code
def yX4_character : MethodName := ⟨RX4, "character", "(I)C"⟩
def dkwX4_character_1 : List UInt8 := [180, 0, 69, 158, 0, 8, 16, 32, 167, 0, 9, 42, 180, 0, 25, 27, 52, 172]
abbrev dktX4_character_1 : List UInt8 := dkwX4_character_1 ++ []
def dkwX4_character_0 : List UInt8 := [42, 27, 3, 42, 180, 0, 209, 4, 100, 184, 0, 87, 153, 0, 7, 3, 167, 0, 4, 4, 181, 0, 69, 42]
abbrev dktX4_character_0 : List UInt8 := dkwX4_character_0 ++ dktX4_character_1
theorem dksX4_character_0 : cX4_character.data.toList.drop 0 = dktX4_character_0 := by decide +kernel
theorem dksX4_character_1 : cX4_character.data.toList.drop 24 = dktX4_character_1 := dk_seg dksX4_character_0 24 rfl rfl
theorem dX4_character_0 : decode cX4_character 0 = .ok (.aload_n 0, 1) := dk_42 (dk_at dksX4_character_0 0 rfl rfl)
theorem dX4_character_1 : decode cX4_character 1 = .ok (.iload_n 1, 1) := dk_27 (dk_at dksX4_character_0 1 rfl rfl)
theorem dX4_character_2 : decode cX4_character 2 = .ok (.iconst 0, 1) := dk_3 (dk_at dksX4_character_0 2 rfl rfl)
theorem dX4_character_3 : decode cX4_character 3 = .ok (.aload_n 0, 1) := dk_42 (dk_at dksX4_character_0 3 rfl rfl)
theorem dX4_character_4 : decode cX4_character 4 = .ok (.getfield 209, 3) := dk_180 0 209 (dk_at dksX4_character_0 4 rfl rfl)
theorem dX4_character_7 : decode cX4_character 7 = .ok (.iconst 1, 1) := dk_4 (dk_at dksX4_character_0 7 rfl rfl)
theorem dX4_character_8 : decode cX4_character 8 = .ok (.isub, 1) := dk_100 (dk_at dksX4_character_0 8 rfl rfl)
theorem dX4_character_9 : decode cX4_character 9 = .ok (.invokestatic 87, 3) := dk_184 0 87 (dk_at dksX4_character_0 9 rfl rfl)
theorem dX4_character_12 : decode cX4_character 12 = .ok (.ifCond .eq 7, 3) := dk_153 0 7 (dk_at dksX4_character_0 12 rfl rfl)
theorem dX4_character_15 : decode cX4_character 15 = .ok (.iconst 0, 1) := dk_3 (dk_at dksX4_character_0 15 rfl rfl)
theorem dX4_character_16 : decode cX4_character 16 = .ok (.goto 4, 3) := dk_167 0 4 (dk_at dksX4_character_0 16 rfl rfl)
theorem dX4_character_19 : decode cX4_character 19 = .ok (.iconst 1, 1) := dk_4 (dk_at dksX4_character_0 19 rfl rfl)
theorem dX4_character_20 : decode cX4_character 20 = .ok (.putfield 69, 3) := dk_181 0 69 (dk_at dksX4_character_0 20 rfl rfl)
theorem dX4_character_23 : decode cX4_character 23 = .ok (.aload_n 0, 1) := dk_42 (dk_at dksX4_character_0 23 rfl rfl)
theorem dX4_character_24 : decode cX4_character 24 = .ok (.getfield 69, 3) := dk_180 0 69 (dk_at dksX4_character_1 0 rfl rfl)
theorem dX4_character_27 : decode cX4_character 27 = .ok (.ifCond .le 8, 3) := dk_158 0 8 (dk_at dksX4_character_1 3 rfl rfl)
theorem dX4_character_30 : decode cX4_character 30 = .ok (.bipush 32, 2) := dk_16 32 (dk_at dksX4_character_1 6 rfl rfl)
theorem dX4_character_32 : decode cX4_character 32 = .ok (.goto 9, 3) := dk_167 0 9 (dk_at dksX4_character_1 8 rfl rfl)
theorem dX4_character_35 : decode cX4_character 35 = .ok (.aload_n 0, 1) := dk_42 (dk_at dksX4_character_1 11 rfl rfl)
theorem dX4_character_36 : decode cX4_character 36 = .ok (.getfield 25, 3) := dk_180 0 25 (dk_at dksX4_character_1 12 rfl rfl)
theorem dX4_character_39 : decode cX4_character 39 = .ok (.iload_n 1, 1) := dk_27 (dk_at dksX4_character_1 15 rfl rfl)
theorem dX4_character_40 : decode cX4_character 40 = .ok (.caload, 1) := dk_52 (dk_at dksX4_character_1 16 rfl rfl)
theorem dX4_character_41 : decode cX4_character 41 = .ok (.ireturn, 1) := dk_172 (dk_at dksX4_character_1 17 rfl rfl)
abbrev cX4_account : ByteArray := prog_21_method_72_code
def yX4_account : MethodName := ⟨RX4, "account", "(I)I"⟩
def dkwX4_account_7 : List UInt8 := [180, 0, 78, 172]
abbrev dktX4_account_7 : List UInt8 := dkwX4_account_7 ++ []
def dkwX4_account_6 : List UInt8 := [16, 6, 46, 172, 42, 182, 0, 250, 172, 42, 180, 0, 9, 8, 46, 172, 42, 180, 0, 253, 172, 42]
abbrev dktX4_account_6 : List UInt8 := dkwX4_account_6 ++ dktX4_account_7
def dkwX4_account_5 : List UInt8 := [180, 0, 9, 7, 46, 172, 42, 180, 0, 9, 16, 8, 27, 96, 16, 10, 100, 46, 172, 42, 180, 0, 9]
abbrev dktX4_account_5 : List UInt8 := dkwX4_account_5 ++ dktX4_account_6
def dkwX4_account_4 : List UInt8 := [42, 182, 0, 158, 100, 172, 42, 182, 0, 158, 172, 42, 180, 0, 9, 6, 46, 172, 42, 182, 0, 174, 172, 42]
abbrev dktX4_account_4 : List UInt8 := dkwX4_account_4 ++ dktX4_account_5
def dkwX4_account_3 : List UInt8 := [42, 180, 0, 9, 27, 46, 172, 42, 27, 7, 160, 0, 7, 4, 167, 0, 4, 3, 182, 0, 246, 172, 16, 60]
abbrev dktX4_account_3 : List UInt8 := dkwX4_account_3 ++ dktX4_account_4
def dkwX4_account_2 : List UInt8 := [170, 0, 0, 0, 0, 0, 175, 0, 0, 0, 0, 0, 0, 0, 16, 0, 0, 0, 83, 0, 0, 0, 83, 0, 0, 0, 83, 0, 0, 0, 90, 0, 0, 0, 90, 0, 0, 0, 105, 0, 0, 0, 113, 0, 0, 0, 118, 0, 0, 0, 125, 0, 0, 0, 130, 0, 0, 0, 137, 0, 0, 0, 137, 0, 0, 0, 137, 0, 0, 0, 150, 0, 0, 0, 158, 0, 0, 0, 163, 0, 0, 0, 170]
abbrev dktX4_account_2 : List UInt8 := dkwX4_account_2 ++ dktX4_account_3
def dkwX4_account_1 : List UInt8 := [158, 0, 5, 3, 172, 27]
abbrev dktX4_account_1 : List UInt8 := dkwX4_account_1 ++ dktX4_account_2
def dkwX4_account_0 : List UInt8 := [42, 27, 3, 16, 17, 184, 0, 87, 153, 0, 7, 3, 167, 0, 4, 4, 181, 0, 69, 42, 180, 0, 69]
abbrev dktX4_account_0 : List UInt8 := dkwX4_account_0 ++ dktX4_account_1
theorem dksX4_account_0 : cX4_account.data.toList.drop 0 = dktX4_account_0 := by decide +kernel
theorem dksX4_account_1 : cX4_account.data.toList.drop 23 = dktX4_account_1 := dk_seg dksX4_account_0 23 rfl rfl
theorem dksX4_account_2 : cX4_account.data.toList.drop 29 = dktX4_account_2 := dk_seg dksX4_account_1 6 rfl rfl
theorem dksX4_account_3 : cX4_account.data.toList.drop 112 = dktX4_account_3 := dk_seg dksX4_account_2 83 rfl rfl
theorem dksX4_account_4 : cX4_account.data.toList.drop 136 = dktX4_account_4 := dk_seg dksX4_account_3 24 rfl rfl
theorem dksX4_account_5 : cX4_account.data.toList.drop 160 = dktX4_account_5 := dk_seg dksX4_account_4 24 rfl rfl
theorem dksX4_account_6 : cX4_account.data.toList.drop 183 = dktX4_account_6 := dk_seg dksX4_account_5 23 rfl rfl
theorem dksX4_account_7 : cX4_account.data.toList.drop 205 = dktX4_account_7 := dk_seg dksX4_account_6 22 rfl rfl
theorem dX4_account_0 : decode cX4_account 0 = .ok (.aload_n 0, 1) := dk_42 (dk_at dksX4_account_0 0 rfl rfl)
theorem dX4_account_1 : decode cX4_account 1 = .ok (.iload_n 1, 1) := dk_27 (dk_at dksX4_account_0 1 rfl rfl)
theorem dX4_account_2 : decode cX4_account 2 = .ok (.iconst 0, 1) := dk_3 (dk_at dksX4_account_0 2 rfl rfl)
theorem dX4_account_3 : decode cX4_account 3 = .ok (.bipush 17, 2) := dk_16 17 (dk_at dksX4_account_0 3 rfl rfl)
theorem dX4_account_5 : decode cX4_account 5 = .ok (.invokestatic 87, 3) := dk_184 0 87 (dk_at dksX4_account_0 5 rfl rfl)
theorem dX4_account_8 : decode cX4_account 8 = .ok (.ifCond .eq 7, 3) := dk_153 0 7 (dk_at dksX4_account_0 8 rfl rfl)
theorem dX4_account_11 : decode cX4_account 11 = .ok (.iconst 0, 1) := dk_3 (dk_at dksX4_account_0 11 rfl rfl)
theorem dX4_account_12 : decode cX4_account 12 = .ok (.goto 4, 3) := dk_167 0 4 (dk_at dksX4_account_0 12 rfl rfl)
theorem dX4_account_15 : decode cX4_account 15 = .ok (.iconst 1, 1) := dk_4 (dk_at dksX4_account_0 15 rfl rfl)
theorem dX4_account_16 : decode cX4_account 16 = .ok (.putfield 69, 3) := dk_181 0 69 (dk_at dksX4_account_0 16 rfl rfl)
theorem dX4_account_19 : decode cX4_account 19 = .ok (.aload_n 0, 1) := dk_42 (dk_at dksX4_account_0 19 rfl rfl)
theorem dX4_account_20 : decode cX4_account 20 = .ok (.getfield 69, 3) := dk_180 0 69 (dk_at dksX4_account_0 20 rfl rfl)
theorem dX4_account_23 : decode cX4_account 23 = .ok (.ifCond .le 5, 3) := dk_158 0 5 (dk_at dksX4_account_1 0 rfl rfl)
theorem dX4_account_26 : decode cX4_account 26 = .ok (.iconst 0, 1) := dk_3 (dk_at dksX4_account_1 3 rfl rfl)
theorem dX4_account_27 : decode cX4_account 27 = .ok (.ireturn, 1) := dk_172 (dk_at dksX4_account_1 4 rfl rfl)
theorem dX4_account_28 : decode cX4_account 28 = .ok (.iload_n 1, 1) := dk_27 (dk_at dksX4_account_1 5 rfl rfl)
theorem dX4_account_29 : decode cX4_account 29 = .ok (.tableswitch 175 0 16 #[83, 83, 83, 90, 90, 105, 113, 118, 125, 130, 137, 137, 137, 150, 158, 163, 170], 83) := by decide +kernel
theorem dX4_account_112 : decode cX4_account 112 = .ok (.aload_n 0, 1) := dk_42 (dk_at dksX4_account_3 0 rfl rfl)
theorem dX4_account_113 : decode cX4_account 113 = .ok (.getfield 9, 3) := dk_180 0 9 (dk_at dksX4_account_3 1 rfl rfl)
theorem dX4_account_116 : decode cX4_account 116 = .ok (.iload_n 1, 1) := dk_27 (dk_at dksX4_account_3 4 rfl rfl)
theorem dX4_account_117 : decode cX4_account 117 = .ok (.iaload, 1) := dk_46 (dk_at dksX4_account_3 5 rfl rfl)
theorem dX4_account_118 : decode cX4_account 118 = .ok (.ireturn, 1) := dk_172 (dk_at dksX4_account_3 6 rfl rfl)
theorem dX4_account_119 : decode cX4_account 119 = .ok (.aload_n 0, 1) := dk_42 (dk_at dksX4_account_3 7 rfl rfl)
theorem dX4_account_120 : decode cX4_account 120 = .ok (.iload_n 1, 1) := dk_27 (dk_at dksX4_account_3 8 rfl rfl)
theorem dX4_account_121 : decode cX4_account 121 = .ok (.iconst 4, 1) := dk_7 (dk_at dksX4_account_3 9 rfl rfl)
theorem dX4_account_122 : decode cX4_account 122 = .ok (.if_icmp .ne 7, 3) := dk_160 0 7 (dk_at dksX4_account_3 10 rfl rfl)
theorem dX4_account_125 : decode cX4_account 125 = .ok (.iconst 1, 1) := dk_4 (dk_at dksX4_account_3 13 rfl rfl)
theorem dX4_account_126 : decode cX4_account 126 = .ok (.goto 4, 3) := dk_167 0 4 (dk_at dksX4_account_3 14 rfl rfl)
theorem dX4_account_129 : decode cX4_account 129 = .ok (.iconst 0, 1) := dk_3 (dk_at dksX4_account_3 17 rfl rfl)
theorem dX4_account_130 : decode cX4_account 130 = .ok (.invokevirtual 246, 3) := dk_182 0 246 (dk_at dksX4_account_3 18 rfl rfl)
theorem dX4_account_133 : decode cX4_account 133 = .ok (.ireturn, 1) := dk_172 (dk_at dksX4_account_3 21 rfl rfl)
theorem dX4_account_134 : decode cX4_account 134 = .ok (.bipush 60, 2) := dk_16 60 (dk_at dksX4_account_3 22 rfl rfl)
theorem dX4_account_136 : decode cX4_account 136 = .ok (.aload_n 0, 1) := dk_42 (dk_at dksX4_account_4 0 rfl rfl)
theorem dX4_account_137 : decode cX4_account 137 = .ok (.invokevirtual 158, 3) := dk_182 0 158 (dk_at dksX4_account_4 1 rfl rfl)
theorem dX4_account_140 : decode cX4_account 140 = .ok (.isub, 1) := dk_100 (dk_at dksX4_account_4 4 rfl rfl)
theorem dX4_account_141 : decode cX4_account 141 = .ok (.ireturn, 1) := dk_172 (dk_at dksX4_account_4 5 rfl rfl)
theorem dX4_account_142 : decode cX4_account 142 = .ok (.aload_n 0, 1) := dk_42 (dk_at dksX4_account_4 6 rfl rfl)
theorem dX4_account_143 : decode cX4_account 143 = .ok (.invokevirtual 158, 3) := dk_182 0 158 (dk_at dksX4_account_4 7 rfl rfl)
theorem dX4_account_146 : decode cX4_account 146 = .ok (.ireturn, 1) := dk_172 (dk_at dksX4_account_4 10 rfl rfl)
theorem dX4_account_147 : decode cX4_account 147 = .ok (.aload_n 0, 1) := dk_42 (dk_at dksX4_account_4 11 rfl rfl)
theorem dX4_account_148 : decode cX4_account 148 = .ok (.getfield 9, 3) := dk_180 0 9 (dk_at dksX4_account_4 12 rfl rfl)
theorem dX4_account_151 : decode cX4_account 151 = .ok (.iconst 3, 1) := dk_6 (dk_at dksX4_account_4 15 rfl rfl)
theorem dX4_account_152 : decode cX4_account 152 = .ok (.iaload, 1) := dk_46 (dk_at dksX4_account_4 16 rfl rfl)
theorem dX4_account_153 : decode cX4_account 153 = .ok (.ireturn, 1) := dk_172 (dk_at dksX4_account_4 17 rfl rfl)
theorem dX4_account_154 : decode cX4_account 154 = .ok (.aload_n 0, 1) := dk_42 (dk_at dksX4_account_4 18 rfl rfl)
theorem dX4_account_155 : decode cX4_account 155 = .ok (.invokevirtual 174, 3) := dk_182 0 174 (dk_at dksX4_account_4 19 rfl rfl)
theorem dX4_account_158 : decode cX4_account 158 = .ok (.ireturn, 1) := dk_172 (dk_at dksX4_account_4 22 rfl rfl)
theorem dX4_account_159 : decode cX4_account 159 = .ok (.aload_n 0, 1) := dk_42 (dk_at dksX4_account_4 23 rfl rfl)
theorem dX4_account_160 : decode cX4_account 160 = .ok (.getfield 9, 3) := dk_180 0 9 (dk_at dksX4_account_5 0 rfl rfl)
theorem dX4_account_163 : decode cX4_account 163 = .ok (.iconst 4, 1) := dk_7 (dk_at dksX4_account_5 3 rfl rfl)
theorem dX4_account_164 : decode cX4_account 164 = .ok (.iaload, 1) := dk_46 (dk_at dksX4_account_5 4 rfl rfl)
theorem dX4_account_165 : decode cX4_account 165 = .ok (.ireturn, 1) := dk_172 (dk_at dksX4_account_5 5 rfl rfl)
theorem dX4_account_166 : decode cX4_account 166 = .ok (.aload_n 0, 1) := dk_42 (dk_at dksX4_account_5 6 rfl rfl)
theorem dX4_account_167 : decode cX4_account 167 = .ok (.getfield 9, 3) := dk_180 0 9 (dk_at dksX4_account_5 7 rfl rfl)
theorem dX4_account_170 : decode cX4_account 170 = .ok (.bipush 8, 2) := dk_16 8 (dk_at dksX4_account_5 10 rfl rfl)
theorem dX4_account_172 : decode cX4_account 172 = .ok (.iload_n 1, 1) := dk_27 (dk_at dksX4_account_5 12 rfl rfl)
theorem dX4_account_173 : decode cX4_account 173 = .ok (.iadd, 1) := dk_96 (dk_at dksX4_account_5 13 rfl rfl)
theorem dX4_account_174 : decode cX4_account 174 = .ok (.bipush 10, 2) := dk_16 10 (dk_at dksX4_account_5 14 rfl rfl)
theorem dX4_account_176 : decode cX4_account 176 = .ok (.isub, 1) := dk_100 (dk_at dksX4_account_5 16 rfl rfl)
theorem dX4_account_177 : decode cX4_account 177 = .ok (.iaload, 1) := dk_46 (dk_at dksX4_account_5 17 rfl rfl)
theorem dX4_account_178 : decode cX4_account 178 = .ok (.ireturn, 1) := dk_172 (dk_at dksX4_account_5 18 rfl rfl)
theorem dX4_account_179 : decode cX4_account 179 = .ok (.aload_n 0, 1) := dk_42 (dk_at dksX4_account_5 19 rfl rfl)
theorem dX4_account_180 : decode cX4_account 180 = .ok (.getfield 9, 3) := dk_180 0 9 (dk_at dksX4_account_5 20 rfl rfl)
theorem dX4_account_183 : decode cX4_account 183 = .ok (.bipush 6, 2) := dk_16 6 (dk_at dksX4_account_6 0 rfl rfl)
theorem dX4_account_185 : decode cX4_account 185 = .ok (.iaload, 1) := dk_46 (dk_at dksX4_account_6 2 rfl rfl)
theorem dX4_account_186 : decode cX4_account 186 = .ok (.ireturn, 1) := dk_172 (dk_at dksX4_account_6 3 rfl rfl)
theorem dX4_account_187 : decode cX4_account 187 = .ok (.aload_n 0, 1) := dk_42 (dk_at dksX4_account_6 4 rfl rfl)
theorem dX4_account_188 : decode cX4_account 188 = .ok (.invokevirtual 250, 3) := dk_182 0 250 (dk_at dksX4_account_6 5 rfl rfl)
theorem dX4_account_191 : decode cX4_account 191 = .ok (.ireturn, 1) := dk_172 (dk_at dksX4_account_6 8 rfl rfl)
theorem dX4_account_192 : decode cX4_account 192 = .ok (.aload_n 0, 1) := dk_42 (dk_at dksX4_account_6 9 rfl rfl)
theorem dX4_account_193 : decode cX4_account 193 = .ok (.getfield 9, 3) := dk_180 0 9 (dk_at dksX4_account_6 10 rfl rfl)
theorem dX4_account_196 : decode cX4_account 196 = .ok (.iconst 5, 1) := dk_8 (dk_at dksX4_account_6 13 rfl rfl)
theorem dX4_account_197 : decode cX4_account 197 = .ok (.iaload, 1) := dk_46 (dk_at dksX4_account_6 14 rfl rfl)
theorem dX4_account_198 : decode cX4_account 198 = .ok (.ireturn, 1) := dk_172 (dk_at dksX4_account_6 15 rfl rfl)
theorem dX4_account_199 : decode cX4_account 199 = .ok (.aload_n 0, 1) := dk_42 (dk_at dksX4_account_6 16 rfl rfl)
theorem dX4_account_200 : decode cX4_account 200 = .ok (.getfield 253, 3) := dk_180 0 253 (dk_at dksX4_account_6 17 rfl rfl)
theorem dX4_account_203 : decode cX4_account 203 = .ok (.ireturn, 1) := dk_172 (dk_at dksX4_account_6 20 rfl rfl)
theorem dX4_account_204 : decode cX4_account 204 = .ok (.aload_n 0, 1) := dk_42 (dk_at dksX4_account_6 21 rfl rfl)
theorem dX4_account_205 : decode cX4_account 205 = .ok (.getfield 78, 3) := dk_180 0 78 (dk_at dksX4_account_7 0 rfl rfl)
theorem dX4_account_208 : decode cX4_account 208 = .ok (.ireturn, 1) := dk_172 (dk_at dksX4_account_7 3 rfl rfl)
abbrev cX4_hanging : ByteArray := prog_21_method_70_code
def yX4_hanging : MethodName := ⟨RX4, "hanging", "(Z)I"⟩
def dkwX4_hanging_2 : List UInt8 := [28, 172]
abbrev dktX4_hanging_2 : List UInt8 := dkwX4_hanging_2 ++ []
def dkwX4_hanging_1 : List UInt8 := [167, 0, 16, 27, 153, 0, 11, 42, 29, 182, 0, 95, 167, 0, 4, 4, 96, 61, 132, 3, 1, 167, 255, 215]
abbrev dktX4_hanging_1 : List UInt8 := dkwX4_hanging_1 ++ dktX4_hanging_2
def dkwX4_hanging_0 : List UInt8 := [3, 61, 3, 62, 29, 42, 180, 0, 9, 5, 46, 162, 0, 37, 28, 42, 29, 182, 0, 91, 156, 0, 7, 3]
abbrev dktX4_hanging_0 : List UInt8 := dkwX4_hanging_0 ++ dktX4_hanging_1
theorem dksX4_hanging_0 : cX4_hanging.data.toList.drop 0 = dktX4_hanging_0 := by decide +kernel
theorem dksX4_hanging_1 : cX4_hanging.data.toList.drop 24 = dktX4_hanging_1 := dk_seg dksX4_hanging_0 24 rfl rfl
theorem dksX4_hanging_2 : cX4_hanging.data.toList.drop 48 = dktX4_hanging_2 := dk_seg dksX4_hanging_1 24 rfl rfl
theorem dX4_hanging_0 : decode cX4_hanging 0 = .ok (.iconst 0, 1) := dk_3 (dk_at dksX4_hanging_0 0 rfl rfl)
theorem dX4_hanging_1 : decode cX4_hanging 1 = .ok (.istore_n 2, 1) := dk_61 (dk_at dksX4_hanging_0 1 rfl rfl)
theorem dX4_hanging_2 : decode cX4_hanging 2 = .ok (.iconst 0, 1) := dk_3 (dk_at dksX4_hanging_0 2 rfl rfl)
theorem dX4_hanging_3 : decode cX4_hanging 3 = .ok (.istore_n 3, 1) := dk_62 (dk_at dksX4_hanging_0 3 rfl rfl)
theorem dX4_hanging_4 : decode cX4_hanging 4 = .ok (.iload_n 3, 1) := dk_29 (dk_at dksX4_hanging_0 4 rfl rfl)
theorem dX4_hanging_5 : decode cX4_hanging 5 = .ok (.aload_n 0, 1) := dk_42 (dk_at dksX4_hanging_0 5 rfl rfl)
theorem dX4_hanging_6 : decode cX4_hanging 6 = .ok (.getfield 9, 3) := dk_180 0 9 (dk_at dksX4_hanging_0 6 rfl rfl)
theorem dX4_hanging_9 : decode cX4_hanging 9 = .ok (.iconst 2, 1) := dk_5 (dk_at dksX4_hanging_0 9 rfl rfl)
theorem dX4_hanging_10 : decode cX4_hanging 10 = .ok (.iaload, 1) := dk_46 (dk_at dksX4_hanging_0 10 rfl rfl)
theorem dX4_hanging_11 : decode cX4_hanging 11 = .ok (.if_icmp .ge 37, 3) := dk_162 0 37 (dk_at dksX4_hanging_0 11 rfl rfl)
theorem dX4_hanging_14 : decode cX4_hanging 14 = .ok (.iload_n 2, 1) := dk_28 (dk_at dksX4_hanging_0 14 rfl rfl)
theorem dX4_hanging_15 : decode cX4_hanging 15 = .ok (.aload_n 0, 1) := dk_42 (dk_at dksX4_hanging_0 15 rfl rfl)
theorem dX4_hanging_16 : decode cX4_hanging 16 = .ok (.iload_n 3, 1) := dk_29 (dk_at dksX4_hanging_0 16 rfl rfl)
theorem dX4_hanging_17 : decode cX4_hanging 17 = .ok (.invokevirtual 91, 3) := dk_182 0 91 (dk_at dksX4_hanging_0 17 rfl rfl)
theorem dX4_hanging_20 : decode cX4_hanging 20 = .ok (.ifCond .ge 7, 3) := dk_156 0 7 (dk_at dksX4_hanging_0 20 rfl rfl)
theorem dX4_hanging_23 : decode cX4_hanging 23 = .ok (.iconst 0, 1) := dk_3 (dk_at dksX4_hanging_0 23 rfl rfl)
theorem dX4_hanging_24 : decode cX4_hanging 24 = .ok (.goto 16, 3) := dk_167 0 16 (dk_at dksX4_hanging_1 0 rfl rfl)
theorem dX4_hanging_27 : decode cX4_hanging 27 = .ok (.iload_n 1, 1) := dk_27 (dk_at dksX4_hanging_1 3 rfl rfl)
theorem dX4_hanging_28 : decode cX4_hanging 28 = .ok (.ifCond .eq 11, 3) := dk_153 0 11 (dk_at dksX4_hanging_1 4 rfl rfl)
theorem dX4_hanging_31 : decode cX4_hanging 31 = .ok (.aload_n 0, 1) := dk_42 (dk_at dksX4_hanging_1 7 rfl rfl)
theorem dX4_hanging_32 : decode cX4_hanging 32 = .ok (.iload_n 3, 1) := dk_29 (dk_at dksX4_hanging_1 8 rfl rfl)
theorem dX4_hanging_33 : decode cX4_hanging 33 = .ok (.invokevirtual 95, 3) := dk_182 0 95 (dk_at dksX4_hanging_1 9 rfl rfl)
theorem dX4_hanging_36 : decode cX4_hanging 36 = .ok (.goto 4, 3) := dk_167 0 4 (dk_at dksX4_hanging_1 12 rfl rfl)
theorem dX4_hanging_39 : decode cX4_hanging 39 = .ok (.iconst 1, 1) := dk_4 (dk_at dksX4_hanging_1 15 rfl rfl)
theorem dX4_hanging_40 : decode cX4_hanging 40 = .ok (.iadd, 1) := dk_96 (dk_at dksX4_hanging_1 16 rfl rfl)
theorem dX4_hanging_41 : decode cX4_hanging 41 = .ok (.istore_n 2, 1) := dk_61 (dk_at dksX4_hanging_1 17 rfl rfl)
theorem dX4_hanging_42 : decode cX4_hanging 42 = .ok (.iinc 3 1, 3) := dk_132 3 1 (dk_at dksX4_hanging_1 18 rfl rfl)
theorem dX4_hanging_45 : decode cX4_hanging 45 = .ok (.goto (-41), 3) := dk_167 255 215 (dk_at dksX4_hanging_1 21 rfl rfl)
theorem dX4_hanging_48 : decode cX4_hanging 48 = .ok (.iload_n 2, 1) := dk_28 (dk_at dksX4_hanging_2 0 rfl rfl)
theorem dX4_hanging_49 : decode cX4_hanging 49 = .ok (.ireturn, 1) := dk_172 (dk_at dksX4_hanging_2 1 rfl rfl)
abbrev cX4_unbalanced : ByteArray := prog_21_method_71_code
def yX4_unbalanced : MethodName := ⟨RX4, "unbalanced", "()I"⟩
def dkwX4_unbalanced_1 : List UInt8 := [8, 46, 164, 0, 7, 4, 167, 0, 4, 3, 96, 60, 132, 2, 1, 167, 255, 221, 27, 172]
abbrev dktX4_unbalanced_1 : List UInt8 := dkwX4_unbalanced_1 ++ []
def dkwX4_unbalanced_0 : List UInt8 := [3, 60, 3, 61, 28, 42, 180, 0, 9, 4, 46, 162, 0, 31, 27, 42, 28, 182, 0, 133, 42, 180, 0, 9]
abbrev dktX4_unbalanced_0 : List UInt8 := dkwX4_unbalanced_0 ++ dktX4_unbalanced_1
theorem dksX4_unbalanced_0 : cX4_unbalanced.data.toList.drop 0 = dktX4_unbalanced_0 := by decide +kernel
theorem dksX4_unbalanced_1 : cX4_unbalanced.data.toList.drop 24 = dktX4_unbalanced_1 := dk_seg dksX4_unbalanced_0 24 rfl rfl
theorem dX4_unbalanced_0 : decode cX4_unbalanced 0 = .ok (.iconst 0, 1) := dk_3 (dk_at dksX4_unbalanced_0 0 rfl rfl)
theorem dX4_unbalanced_1 : decode cX4_unbalanced 1 = .ok (.istore_n 1, 1) := dk_60 (dk_at dksX4_unbalanced_0 1 rfl rfl)
theorem dX4_unbalanced_2 : decode cX4_unbalanced 2 = .ok (.iconst 0, 1) := dk_3 (dk_at dksX4_unbalanced_0 2 rfl rfl)
theorem dX4_unbalanced_3 : decode cX4_unbalanced 3 = .ok (.istore_n 2, 1) := dk_61 (dk_at dksX4_unbalanced_0 3 rfl rfl)
theorem dX4_unbalanced_4 : decode cX4_unbalanced 4 = .ok (.iload_n 2, 1) := dk_28 (dk_at dksX4_unbalanced_0 4 rfl rfl)
theorem dX4_unbalanced_5 : decode cX4_unbalanced 5 = .ok (.aload_n 0, 1) := dk_42 (dk_at dksX4_unbalanced_0 5 rfl rfl)
theorem dX4_unbalanced_6 : decode cX4_unbalanced 6 = .ok (.getfield 9, 3) := dk_180 0 9 (dk_at dksX4_unbalanced_0 6 rfl rfl)
theorem dX4_unbalanced_9 : decode cX4_unbalanced 9 = .ok (.iconst 1, 1) := dk_4 (dk_at dksX4_unbalanced_0 9 rfl rfl)
theorem dX4_unbalanced_10 : decode cX4_unbalanced 10 = .ok (.iaload, 1) := dk_46 (dk_at dksX4_unbalanced_0 10 rfl rfl)
theorem dX4_unbalanced_11 : decode cX4_unbalanced 11 = .ok (.if_icmp .ge 31, 3) := dk_162 0 31 (dk_at dksX4_unbalanced_0 11 rfl rfl)
theorem dX4_unbalanced_14 : decode cX4_unbalanced 14 = .ok (.iload_n 1, 1) := dk_27 (dk_at dksX4_unbalanced_0 14 rfl rfl)
theorem dX4_unbalanced_15 : decode cX4_unbalanced 15 = .ok (.aload_n 0, 1) := dk_42 (dk_at dksX4_unbalanced_0 15 rfl rfl)
theorem dX4_unbalanced_16 : decode cX4_unbalanced 16 = .ok (.iload_n 2, 1) := dk_28 (dk_at dksX4_unbalanced_0 16 rfl rfl)
theorem dX4_unbalanced_17 : decode cX4_unbalanced 17 = .ok (.invokevirtual 133, 3) := dk_182 0 133 (dk_at dksX4_unbalanced_0 17 rfl rfl)
theorem dX4_unbalanced_20 : decode cX4_unbalanced 20 = .ok (.aload_n 0, 1) := dk_42 (dk_at dksX4_unbalanced_0 20 rfl rfl)
theorem dX4_unbalanced_21 : decode cX4_unbalanced 21 = .ok (.getfield 9, 3) := dk_180 0 9 (dk_at dksX4_unbalanced_0 21 rfl rfl)
theorem dX4_unbalanced_24 : decode cX4_unbalanced 24 = .ok (.iconst 5, 1) := dk_8 (dk_at dksX4_unbalanced_1 0 rfl rfl)
theorem dX4_unbalanced_25 : decode cX4_unbalanced 25 = .ok (.iaload, 1) := dk_46 (dk_at dksX4_unbalanced_1 1 rfl rfl)
theorem dX4_unbalanced_26 : decode cX4_unbalanced 26 = .ok (.if_icmp .le 7, 3) := dk_164 0 7 (dk_at dksX4_unbalanced_1 2 rfl rfl)
theorem dX4_unbalanced_29 : decode cX4_unbalanced 29 = .ok (.iconst 1, 1) := dk_4 (dk_at dksX4_unbalanced_1 5 rfl rfl)
theorem dX4_unbalanced_30 : decode cX4_unbalanced 30 = .ok (.goto 4, 3) := dk_167 0 4 (dk_at dksX4_unbalanced_1 6 rfl rfl)
theorem dX4_unbalanced_33 : decode cX4_unbalanced 33 = .ok (.iconst 0, 1) := dk_3 (dk_at dksX4_unbalanced_1 9 rfl rfl)
theorem dX4_unbalanced_34 : decode cX4_unbalanced 34 = .ok (.iadd, 1) := dk_96 (dk_at dksX4_unbalanced_1 10 rfl rfl)
theorem dX4_unbalanced_35 : decode cX4_unbalanced 35 = .ok (.istore_n 1, 1) := dk_60 (dk_at dksX4_unbalanced_1 11 rfl rfl)
theorem dX4_unbalanced_36 : decode cX4_unbalanced 36 = .ok (.iinc 2 1, 3) := dk_132 2 1 (dk_at dksX4_unbalanced_1 12 rfl rfl)
theorem dX4_unbalanced_39 : decode cX4_unbalanced 39 = .ok (.goto (-35), 3) := dk_167 255 221 (dk_at dksX4_unbalanced_1 15 rfl rfl)
theorem dX4_unbalanced_42 : decode cX4_unbalanced 42 = .ok (.iload_n 1, 1) := dk_27 (dk_at dksX4_unbalanced_1 18 rfl rfl)
theorem dX4_unbalanced_43 : decode cX4_unbalanced 43 = .ok (.ireturn, 1) := dk_172 (dk_at dksX4_unbalanced_1 19 rfl rfl)
abbrev cX4_storeAgain : ByteArray := prog_21_method_73_code
def yX4_storeAgain : MethodName := ⟨RX4, "storeAgain", "()I"⟩
def dkwX4_storeAgain_0 : List UInt8 := [42, 3, 181, 0, 69, 16, 60, 42, 182, 0, 158, 100, 172]
abbrev dktX4_storeAgain_0 : List UInt8 := dkwX4_storeAgain_0 ++ []
theorem dksX4_storeAgain_0 : cX4_storeAgain.data.toList.drop 0 = dktX4_storeAgain_0 := by decide +kernel
theorem dX4_storeAgain_0 : decode cX4_storeAgain 0 = .ok (.aload_n 0, 1) := dk_42 (dk_at dksX4_storeAgain_0 0 rfl rfl)
theorem dX4_storeAgain_1 : decode cX4_storeAgain 1 = .ok (.iconst 0, 1) := dk_3 (dk_at dksX4_storeAgain_0 1 rfl rfl)
theorem dX4_storeAgain_2 : decode cX4_storeAgain 2 = .ok (.putfield 69, 3) := dk_181 0 69 (dk_at dksX4_storeAgain_0 2 rfl rfl)
theorem dX4_storeAgain_5 : decode cX4_storeAgain 5 = .ok (.bipush 60, 2) := dk_16 60 (dk_at dksX4_storeAgain_0 5 rfl rfl)
theorem dX4_storeAgain_7 : decode cX4_storeAgain 7 = .ok (.aload_n 0, 1) := dk_42 (dk_at dksX4_storeAgain_0 7 rfl rfl)
theorem dX4_storeAgain_8 : decode cX4_storeAgain 8 = .ok (.invokevirtual 158, 3) := dk_182 0 158 (dk_at dksX4_storeAgain_0 8 rfl rfl)
theorem dX4_storeAgain_11 : decode cX4_storeAgain 11 = .ok (.isub, 1) := dk_100 (dk_at dksX4_storeAgain_0 11 rfl rfl)
theorem dX4_storeAgain_12 : decode cX4_storeAgain 12 = .ok (.ireturn, 1) := dk_172 (dk_at dksX4_storeAgain_0 12 rfl rfl)
abbrev cX4_meanHeight : ByteArray := prog_21_method_74_code
def yX4_meanHeight : MethodName := ⟨RX4, "meanHeight", "()D"⟩
def dkwX4_meanHeight_2 : List UInt8 := [42, 180, 0, 69, 158, 0, 7, 14, 167, 0, 13, 27, 135, 42, 180, 0, 9, 4, 46, 135, 111, 175]
abbrev dktX4_meanHeight_2 : List UInt8 := dkwX4_meanHeight_2 ++ []
def dkwX4_meanHeight_1 : List UInt8 := [132, 2, 1, 167, 255, 234, 42, 42, 180, 0, 9, 4, 46, 154, 0, 7, 4, 167, 0, 4, 3, 181, 0, 69]
abbrev dktX4_meanHeight_1 : List UInt8 := dkwX4_meanHeight_1 ++ dktX4_meanHeight_2
def dkwX4_meanHeight_0 : List UInt8 := [3, 60, 3, 61, 28, 42, 180, 0, 9, 4, 46, 162, 0, 18, 27, 42, 28, 3, 182, 0, 101, 96, 60]
abbrev dktX4_meanHeight_0 : List UInt8 := dkwX4_meanHeight_0 ++ dktX4_meanHeight_1
theorem dksX4_meanHeight_0 : cX4_meanHeight.data.toList.drop 0 = dktX4_meanHeight_0 := by decide +kernel
theorem dksX4_meanHeight_1 : cX4_meanHeight.data.toList.drop 23 = dktX4_meanHeight_1 := dk_seg dksX4_meanHeight_0 23 rfl rfl
theorem dksX4_meanHeight_2 : cX4_meanHeight.data.toList.drop 47 = dktX4_meanHeight_2 := dk_seg dksX4_meanHeight_1 24 rfl rfl
theorem dX4_meanHeight_0 : decode cX4_meanHeight 0 = .ok (.iconst 0, 1) := dk_3 (dk_at dksX4_meanHeight_0 0 rfl rfl)
theorem dX4_meanHeight_1 : decode cX4_meanHeight 1 = .ok (.istore_n 1, 1) := dk_60 (dk_at dksX4_meanHeight_0 1 rfl rfl)
theorem dX4_meanHeight_2 : decode cX4_meanHeight 2 = .ok (.iconst 0, 1) := dk_3 (dk_at dksX4_meanHeight_0 2 rfl rfl)
theorem dX4_meanHeight_3 : decode cX4_meanHeight 3 = .ok (.istore_n 2, 1) := dk_61 (dk_at dksX4_meanHeight_0 3 rfl rfl)
theorem dX4_meanHeight_4 : decode cX4_meanHeight 4 = .ok (.iload_n 2, 1) := dk_28 (dk_at dksX4_meanHeight_0 4 rfl rfl)
theorem dX4_meanHeight_5 : decode cX4_meanHeight 5 = .ok (.aload_n 0, 1) := dk_42 (dk_at dksX4_meanHeight_0 5 rfl rfl)
theorem dX4_meanHeight_6 : decode cX4_meanHeight 6 = .ok (.getfield 9, 3) := dk_180 0 9 (dk_at dksX4_meanHeight_0 6 rfl rfl)
theorem dX4_meanHeight_9 : decode cX4_meanHeight 9 = .ok (.iconst 1, 1) := dk_4 (dk_at dksX4_meanHeight_0 9 rfl rfl)
theorem dX4_meanHeight_10 : decode cX4_meanHeight 10 = .ok (.iaload, 1) := dk_46 (dk_at dksX4_meanHeight_0 10 rfl rfl)
theorem dX4_meanHeight_11 : decode cX4_meanHeight 11 = .ok (.if_icmp .ge 18, 3) := dk_162 0 18 (dk_at dksX4_meanHeight_0 11 rfl rfl)
theorem dX4_meanHeight_14 : decode cX4_meanHeight 14 = .ok (.iload_n 1, 1) := dk_27 (dk_at dksX4_meanHeight_0 14 rfl rfl)
theorem dX4_meanHeight_15 : decode cX4_meanHeight 15 = .ok (.aload_n 0, 1) := dk_42 (dk_at dksX4_meanHeight_0 15 rfl rfl)
theorem dX4_meanHeight_16 : decode cX4_meanHeight 16 = .ok (.iload_n 2, 1) := dk_28 (dk_at dksX4_meanHeight_0 16 rfl rfl)
theorem dX4_meanHeight_17 : decode cX4_meanHeight 17 = .ok (.iconst 0, 1) := dk_3 (dk_at dksX4_meanHeight_0 17 rfl rfl)
theorem dX4_meanHeight_18 : decode cX4_meanHeight 18 = .ok (.invokevirtual 101, 3) := dk_182 0 101 (dk_at dksX4_meanHeight_0 18 rfl rfl)
theorem dX4_meanHeight_21 : decode cX4_meanHeight 21 = .ok (.iadd, 1) := dk_96 (dk_at dksX4_meanHeight_0 21 rfl rfl)
theorem dX4_meanHeight_22 : decode cX4_meanHeight 22 = .ok (.istore_n 1, 1) := dk_60 (dk_at dksX4_meanHeight_0 22 rfl rfl)
theorem dX4_meanHeight_23 : decode cX4_meanHeight 23 = .ok (.iinc 2 1, 3) := dk_132 2 1 (dk_at dksX4_meanHeight_1 0 rfl rfl)
theorem dX4_meanHeight_26 : decode cX4_meanHeight 26 = .ok (.goto (-22), 3) := dk_167 255 234 (dk_at dksX4_meanHeight_1 3 rfl rfl)
theorem dX4_meanHeight_29 : decode cX4_meanHeight 29 = .ok (.aload_n 0, 1) := dk_42 (dk_at dksX4_meanHeight_1 6 rfl rfl)
theorem dX4_meanHeight_30 : decode cX4_meanHeight 30 = .ok (.aload_n 0, 1) := dk_42 (dk_at dksX4_meanHeight_1 7 rfl rfl)
theorem dX4_meanHeight_31 : decode cX4_meanHeight 31 = .ok (.getfield 9, 3) := dk_180 0 9 (dk_at dksX4_meanHeight_1 8 rfl rfl)
theorem dX4_meanHeight_34 : decode cX4_meanHeight 34 = .ok (.iconst 1, 1) := dk_4 (dk_at dksX4_meanHeight_1 11 rfl rfl)
theorem dX4_meanHeight_35 : decode cX4_meanHeight 35 = .ok (.iaload, 1) := dk_46 (dk_at dksX4_meanHeight_1 12 rfl rfl)
theorem dX4_meanHeight_36 : decode cX4_meanHeight 36 = .ok (.ifCond .ne 7, 3) := dk_154 0 7 (dk_at dksX4_meanHeight_1 13 rfl rfl)
theorem dX4_meanHeight_39 : decode cX4_meanHeight 39 = .ok (.iconst 1, 1) := dk_4 (dk_at dksX4_meanHeight_1 16 rfl rfl)
theorem dX4_meanHeight_40 : decode cX4_meanHeight 40 = .ok (.goto 4, 3) := dk_167 0 4 (dk_at dksX4_meanHeight_1 17 rfl rfl)
theorem dX4_meanHeight_43 : decode cX4_meanHeight 43 = .ok (.iconst 0, 1) := dk_3 (dk_at dksX4_meanHeight_1 20 rfl rfl)
theorem dX4_meanHeight_44 : decode cX4_meanHeight 44 = .ok (.putfield 69, 3) := dk_181 0 69 (dk_at dksX4_meanHeight_1 21 rfl rfl)
theorem dX4_meanHeight_47 : decode cX4_meanHeight 47 = .ok (.aload_n 0, 1) := dk_42 (dk_at dksX4_meanHeight_2 0 rfl rfl)
theorem dX4_meanHeight_48 : decode cX4_meanHeight 48 = .ok (.getfield 69, 3) := dk_180 0 69 (dk_at dksX4_meanHeight_2 1 rfl rfl)
theorem dX4_meanHeight_51 : decode cX4_meanHeight 51 = .ok (.ifCond .le 7, 3) := dk_158 0 7 (dk_at dksX4_meanHeight_2 4 rfl rfl)
theorem dX4_meanHeight_54 : decode cX4_meanHeight 54 = .ok (.dconst 0, 1) := dk_14 (dk_at dksX4_meanHeight_2 7 rfl rfl)
theorem dX4_meanHeight_55 : decode cX4_meanHeight 55 = .ok (.goto 13, 3) := dk_167 0 13 (dk_at dksX4_meanHeight_2 8 rfl rfl)
theorem dX4_meanHeight_58 : decode cX4_meanHeight 58 = .ok (.iload_n 1, 1) := dk_27 (dk_at dksX4_meanHeight_2 11 rfl rfl)
theorem dX4_meanHeight_59 : decode cX4_meanHeight 59 = .ok (.i2d, 1) := dk_135 (dk_at dksX4_meanHeight_2 12 rfl rfl)
theorem dX4_meanHeight_60 : decode cX4_meanHeight 60 = .ok (.aload_n 0, 1) := dk_42 (dk_at dksX4_meanHeight_2 13 rfl rfl)
theorem dX4_meanHeight_61 : decode cX4_meanHeight 61 = .ok (.getfield 9, 3) := dk_180 0 9 (dk_at dksX4_meanHeight_2 14 rfl rfl)
theorem dX4_meanHeight_64 : decode cX4_meanHeight 64 = .ok (.iconst 1, 1) := dk_4 (dk_at dksX4_meanHeight_2 17 rfl rfl)
theorem dX4_meanHeight_65 : decode cX4_meanHeight 65 = .ok (.iaload, 1) := dk_46 (dk_at dksX4_meanHeight_2 18 rfl rfl)
theorem dX4_meanHeight_66 : decode cX4_meanHeight 66 = .ok (.i2d, 1) := dk_135 (dk_at dksX4_meanHeight_2 19 rfl rfl)
theorem dX4_meanHeight_67 : decode cX4_meanHeight 67 = .ok (.ddiv, 1) := dk_111 (dk_at dksX4_meanHeight_2 20 rfl rfl)
theorem dX4_meanHeight_68 : decode cX4_meanHeight 68 = .ok (.dreturn, 1) := dk_175 (dk_at dksX4_meanHeight_2 21 rfl rfl)
abbrev cX4_balancedShare : ByteArray := prog_21_method_75_code
def yX4_balancedShare : MethodName := ⟨RX4, "balancedShare", "()F"⟩
def dkwX4_balancedShare_2 : List UInt8 := [46, 134, 110, 174]
abbrev dktX4_balancedShare_2 : List UInt8 := dkwX4_balancedShare_2 ++ []
def dkwX4_balancedShare_1 : List UInt8 := [158, 0, 7, 11, 167, 0, 23, 42, 180, 0, 9, 4, 46, 42, 182, 0, 250, 100, 134, 42, 180, 0, 9, 4]
abbrev dktX4_balancedShare_1 : List UInt8 := dkwX4_balancedShare_1 ++ dktX4_balancedShare_2
def dkwX4_balancedShare_0 : List UInt8 := [42, 42, 180, 0, 9, 4, 46, 154, 0, 7, 4, 167, 0, 4, 3, 181, 0, 69, 42, 180, 0, 69]
abbrev dktX4_balancedShare_0 : List UInt8 := dkwX4_balancedShare_0 ++ dktX4_balancedShare_1
theorem dksX4_balancedShare_0 : cX4_balancedShare.data.toList.drop 0 = dktX4_balancedShare_0 := by decide +kernel
theorem dksX4_balancedShare_1 : cX4_balancedShare.data.toList.drop 22 = dktX4_balancedShare_1 := dk_seg dksX4_balancedShare_0 22 rfl rfl
theorem dksX4_balancedShare_2 : cX4_balancedShare.data.toList.drop 46 = dktX4_balancedShare_2 := dk_seg dksX4_balancedShare_1 24 rfl rfl
theorem dX4_balancedShare_0 : decode cX4_balancedShare 0 = .ok (.aload_n 0, 1) := dk_42 (dk_at dksX4_balancedShare_0 0 rfl rfl)
theorem dX4_balancedShare_1 : decode cX4_balancedShare 1 = .ok (.aload_n 0, 1) := dk_42 (dk_at dksX4_balancedShare_0 1 rfl rfl)
theorem dX4_balancedShare_2 : decode cX4_balancedShare 2 = .ok (.getfield 9, 3) := dk_180 0 9 (dk_at dksX4_balancedShare_0 2 rfl rfl)
theorem dX4_balancedShare_5 : decode cX4_balancedShare 5 = .ok (.iconst 1, 1) := dk_4 (dk_at dksX4_balancedShare_0 5 rfl rfl)
theorem dX4_balancedShare_6 : decode cX4_balancedShare 6 = .ok (.iaload, 1) := dk_46 (dk_at dksX4_balancedShare_0 6 rfl rfl)
theorem dX4_balancedShare_7 : decode cX4_balancedShare 7 = .ok (.ifCond .ne 7, 3) := dk_154 0 7 (dk_at dksX4_balancedShare_0 7 rfl rfl)
theorem dX4_balancedShare_10 : decode cX4_balancedShare 10 = .ok (.iconst 1, 1) := dk_4 (dk_at dksX4_balancedShare_0 10 rfl rfl)
theorem dX4_balancedShare_11 : decode cX4_balancedShare 11 = .ok (.goto 4, 3) := dk_167 0 4 (dk_at dksX4_balancedShare_0 11 rfl rfl)
theorem dX4_balancedShare_14 : decode cX4_balancedShare 14 = .ok (.iconst 0, 1) := dk_3 (dk_at dksX4_balancedShare_0 14 rfl rfl)
theorem dX4_balancedShare_15 : decode cX4_balancedShare 15 = .ok (.putfield 69, 3) := dk_181 0 69 (dk_at dksX4_balancedShare_0 15 rfl rfl)
theorem dX4_balancedShare_18 : decode cX4_balancedShare 18 = .ok (.aload_n 0, 1) := dk_42 (dk_at dksX4_balancedShare_0 18 rfl rfl)
theorem dX4_balancedShare_19 : decode cX4_balancedShare 19 = .ok (.getfield 69, 3) := dk_180 0 69 (dk_at dksX4_balancedShare_0 19 rfl rfl)
theorem dX4_balancedShare_22 : decode cX4_balancedShare 22 = .ok (.ifCond .le 7, 3) := dk_158 0 7 (dk_at dksX4_balancedShare_1 0 rfl rfl)
theorem dX4_balancedShare_25 : decode cX4_balancedShare 25 = .ok (.fconst 0, 1) := dk_11 (dk_at dksX4_balancedShare_1 3 rfl rfl)
theorem dX4_balancedShare_26 : decode cX4_balancedShare 26 = .ok (.goto 23, 3) := dk_167 0 23 (dk_at dksX4_balancedShare_1 4 rfl rfl)
theorem dX4_balancedShare_29 : decode cX4_balancedShare 29 = .ok (.aload_n 0, 1) := dk_42 (dk_at dksX4_balancedShare_1 7 rfl rfl)
theorem dX4_balancedShare_30 : decode cX4_balancedShare 30 = .ok (.getfield 9, 3) := dk_180 0 9 (dk_at dksX4_balancedShare_1 8 rfl rfl)
theorem dX4_balancedShare_33 : decode cX4_balancedShare 33 = .ok (.iconst 1, 1) := dk_4 (dk_at dksX4_balancedShare_1 11 rfl rfl)
theorem dX4_balancedShare_34 : decode cX4_balancedShare 34 = .ok (.iaload, 1) := dk_46 (dk_at dksX4_balancedShare_1 12 rfl rfl)
theorem dX4_balancedShare_35 : decode cX4_balancedShare 35 = .ok (.aload_n 0, 1) := dk_42 (dk_at dksX4_balancedShare_1 13 rfl rfl)
theorem dX4_balancedShare_36 : decode cX4_balancedShare 36 = .ok (.invokevirtual 250, 3) := dk_182 0 250 (dk_at dksX4_balancedShare_1 14 rfl rfl)
theorem dX4_balancedShare_39 : decode cX4_balancedShare 39 = .ok (.isub, 1) := dk_100 (dk_at dksX4_balancedShare_1 17 rfl rfl)
theorem dX4_balancedShare_40 : decode cX4_balancedShare 40 = .ok (.i2f, 1) := dk_134 (dk_at dksX4_balancedShare_1 18 rfl rfl)
theorem dX4_balancedShare_41 : decode cX4_balancedShare 41 = .ok (.aload_n 0, 1) := dk_42 (dk_at dksX4_balancedShare_1 19 rfl rfl)
theorem dX4_balancedShare_42 : decode cX4_balancedShare 42 = .ok (.getfield 9, 3) := dk_180 0 9 (dk_at dksX4_balancedShare_1 20 rfl rfl)
theorem dX4_balancedShare_45 : decode cX4_balancedShare 45 = .ok (.iconst 1, 1) := dk_4 (dk_at dksX4_balancedShare_1 23 rfl rfl)
theorem dX4_balancedShare_46 : decode cX4_balancedShare 46 = .ok (.iaload, 1) := dk_46 (dk_at dksX4_balancedShare_2 0 rfl rfl)
theorem dX4_balancedShare_47 : decode cX4_balancedShare 47 = .ok (.i2f, 1) := dk_134 (dk_at dksX4_balancedShare_2 1 rfl rfl)
theorem dX4_balancedShare_48 : decode cX4_balancedShare 48 = .ok (.fdiv, 1) := dk_110 (dk_at dksX4_balancedShare_2 2 rfl rfl)
theorem dX4_balancedShare_49 : decode cX4_balancedShare 49 = .ok (.freturn, 1) := dk_174 (dk_at dksX4_balancedShare_2 3 rfl rfl)
abbrev cX4_append : ByteArray := prog_21_method_76_code
def yX4_append : MethodName := ⟨RX4, "append", "(I)I"⟩
def dkwX4_append_7 : List UInt8 := [167, 0, 7, 42, 180, 0, 253, 172]
abbrev dktX4_append_7 : List UInt8 := dkwX4_append_7 ++ []
def dkwX4_append_6 : List UInt8 := [180, 0, 253, 4, 96, 181, 0, 253, 132, 4, 248, 167, 255, 205, 42, 180, 0, 69, 158, 0, 7, 3]
abbrev dktX4_append_6 : List UInt8 := dkwX4_append_6 ++ dktX4_append_7
def dkwX4_append_5 : List UInt8 := [17, 0, 255, 126, 54, 5, 21, 5, 153, 0, 24, 42, 180, 0, 53, 42, 180, 0, 253, 21, 5, 79, 42, 89]
abbrev dktX4_append_5 : List UInt8 := dkwX4_append_5 ++ dktX4_append_6
def dkwX4_append_4 : List UInt8 := [181, 0, 69, 16, 24, 54, 4, 21, 4, 155, 0, 52, 42, 180, 0, 69, 154, 0, 45, 27, 21, 4, 124]
abbrev dktX4_append_4 : List UInt8 := dkwX4_append_4 ++ dktX4_append_5
def dkwX4_append_3 : List UInt8 := [154, 0, 7, 4, 167, 0, 19, 42, 180, 0, 253, 28, 96, 16, 60, 164, 0, 7, 5, 167, 0, 4, 3]
abbrev dktX4_append_3 : List UInt8 := dkwX4_append_3 ++ dktX4_append_4
def dkwX4_append_2 : List UInt8 := [16, 32, 16, 126, 184, 0, 87, 153, 0, 7, 4, 167, 0, 4, 3, 62, 132, 4, 248, 167, 255, 198, 42, 29]
abbrev dktX4_append_2 : List UInt8 := dkwX4_append_2 ++ dktX4_append_3
def dkwX4_append_1 : List UInt8 := [21, 5, 154, 0, 7, 3, 167, 0, 4, 4, 96, 61, 29, 153, 0, 24, 21, 5, 153, 0, 15, 21, 5]
abbrev dktX4_append_1 : List UInt8 := dkwX4_append_1 ++ dktX4_append_2
def dkwX4_append_0 : List UInt8 := [3, 61, 4, 62, 16, 24, 54, 4, 21, 4, 155, 0, 59, 27, 21, 4, 124, 17, 0, 255, 126, 54, 5, 28]
abbrev dktX4_append_0 : List UInt8 := dkwX4_append_0 ++ dktX4_append_1
theorem dksX4_append_0 : cX4_append.data.toList.drop 0 = dktX4_append_0 := by decide +kernel
theorem dksX4_append_1 : cX4_append.data.toList.drop 24 = dktX4_append_1 := dk_seg dksX4_append_0 24 rfl rfl
theorem dksX4_append_2 : cX4_append.data.toList.drop 47 = dktX4_append_2 := dk_seg dksX4_append_1 23 rfl rfl
theorem dksX4_append_3 : cX4_append.data.toList.drop 71 = dktX4_append_3 := dk_seg dksX4_append_2 24 rfl rfl
theorem dksX4_append_4 : cX4_append.data.toList.drop 94 = dktX4_append_4 := dk_seg dksX4_append_3 23 rfl rfl
theorem dksX4_append_5 : cX4_append.data.toList.drop 117 = dktX4_append_5 := dk_seg dksX4_append_4 23 rfl rfl
theorem dksX4_append_6 : cX4_append.data.toList.drop 141 = dktX4_append_6 := dk_seg dksX4_append_5 24 rfl rfl
theorem dksX4_append_7 : cX4_append.data.toList.drop 163 = dktX4_append_7 := dk_seg dksX4_append_6 22 rfl rfl
theorem dX4_append_0 : decode cX4_append 0 = .ok (.iconst 0, 1) := dk_3 (dk_at dksX4_append_0 0 rfl rfl)
theorem dX4_append_1 : decode cX4_append 1 = .ok (.istore_n 2, 1) := dk_61 (dk_at dksX4_append_0 1 rfl rfl)
theorem dX4_append_2 : decode cX4_append 2 = .ok (.iconst 1, 1) := dk_4 (dk_at dksX4_append_0 2 rfl rfl)
theorem dX4_append_3 : decode cX4_append 3 = .ok (.istore_n 3, 1) := dk_62 (dk_at dksX4_append_0 3 rfl rfl)
theorem dX4_append_4 : decode cX4_append 4 = .ok (.bipush 24, 2) := dk_16 24 (dk_at dksX4_append_0 4 rfl rfl)
theorem dX4_append_6 : decode cX4_append 6 = .ok (.istore 4, 2) := dk_54 4 (dk_at dksX4_append_0 6 rfl rfl)
theorem dX4_append_8 : decode cX4_append 8 = .ok (.iload 4, 2) := dk_21 4 (dk_at dksX4_append_0 8 rfl rfl)
theorem dX4_append_10 : decode cX4_append 10 = .ok (.ifCond .lt 59, 3) := dk_155 0 59 (dk_at dksX4_append_0 10 rfl rfl)
theorem dX4_append_13 : decode cX4_append 13 = .ok (.iload_n 1, 1) := dk_27 (dk_at dksX4_append_0 13 rfl rfl)
theorem dX4_append_14 : decode cX4_append 14 = .ok (.iload 4, 2) := dk_21 4 (dk_at dksX4_append_0 14 rfl rfl)
theorem dX4_append_16 : decode cX4_append 16 = .ok (.iushr, 1) := dk_124 (dk_at dksX4_append_0 16 rfl rfl)
theorem dX4_append_17 : decode cX4_append 17 = .ok (.sipush 255, 3) := dk_17 0 255 (dk_at dksX4_append_0 17 rfl rfl)
theorem dX4_append_20 : decode cX4_append 20 = .ok (.iand, 1) := dk_126 (dk_at dksX4_append_0 20 rfl rfl)
theorem dX4_append_21 : decode cX4_append 21 = .ok (.istore 5, 2) := dk_54 5 (dk_at dksX4_append_0 21 rfl rfl)
theorem dX4_append_23 : decode cX4_append 23 = .ok (.iload_n 2, 1) := dk_28 (dk_at dksX4_append_0 23 rfl rfl)
theorem dX4_append_24 : decode cX4_append 24 = .ok (.iload 5, 2) := dk_21 5 (dk_at dksX4_append_1 0 rfl rfl)
theorem dX4_append_26 : decode cX4_append 26 = .ok (.ifCond .ne 7, 3) := dk_154 0 7 (dk_at dksX4_append_1 2 rfl rfl)
theorem dX4_append_29 : decode cX4_append 29 = .ok (.iconst 0, 1) := dk_3 (dk_at dksX4_append_1 5 rfl rfl)
theorem dX4_append_30 : decode cX4_append 30 = .ok (.goto 4, 3) := dk_167 0 4 (dk_at dksX4_append_1 6 rfl rfl)
theorem dX4_append_33 : decode cX4_append 33 = .ok (.iconst 1, 1) := dk_4 (dk_at dksX4_append_1 9 rfl rfl)
theorem dX4_append_34 : decode cX4_append 34 = .ok (.iadd, 1) := dk_96 (dk_at dksX4_append_1 10 rfl rfl)
theorem dX4_append_35 : decode cX4_append 35 = .ok (.istore_n 2, 1) := dk_61 (dk_at dksX4_append_1 11 rfl rfl)
theorem dX4_append_36 : decode cX4_append 36 = .ok (.iload_n 3, 1) := dk_29 (dk_at dksX4_append_1 12 rfl rfl)
theorem dX4_append_37 : decode cX4_append 37 = .ok (.ifCond .eq 24, 3) := dk_153 0 24 (dk_at dksX4_append_1 13 rfl rfl)
theorem dX4_append_40 : decode cX4_append 40 = .ok (.iload 5, 2) := dk_21 5 (dk_at dksX4_append_1 16 rfl rfl)
theorem dX4_append_42 : decode cX4_append 42 = .ok (.ifCond .eq 15, 3) := dk_153 0 15 (dk_at dksX4_append_1 18 rfl rfl)
theorem dX4_append_45 : decode cX4_append 45 = .ok (.iload 5, 2) := dk_21 5 (dk_at dksX4_append_1 21 rfl rfl)
theorem dX4_append_47 : decode cX4_append 47 = .ok (.bipush 32, 2) := dk_16 32 (dk_at dksX4_append_2 0 rfl rfl)
theorem dX4_append_49 : decode cX4_append 49 = .ok (.bipush 126, 2) := dk_16 126 (dk_at dksX4_append_2 2 rfl rfl)
theorem dX4_append_51 : decode cX4_append 51 = .ok (.invokestatic 87, 3) := dk_184 0 87 (dk_at dksX4_append_2 4 rfl rfl)
theorem dX4_append_54 : decode cX4_append 54 = .ok (.ifCond .eq 7, 3) := dk_153 0 7 (dk_at dksX4_append_2 7 rfl rfl)
theorem dX4_append_57 : decode cX4_append 57 = .ok (.iconst 1, 1) := dk_4 (dk_at dksX4_append_2 10 rfl rfl)
theorem dX4_append_58 : decode cX4_append 58 = .ok (.goto 4, 3) := dk_167 0 4 (dk_at dksX4_append_2 11 rfl rfl)
theorem dX4_append_61 : decode cX4_append 61 = .ok (.iconst 0, 1) := dk_3 (dk_at dksX4_append_2 14 rfl rfl)
theorem dX4_append_62 : decode cX4_append 62 = .ok (.istore_n 3, 1) := dk_62 (dk_at dksX4_append_2 15 rfl rfl)
theorem dX4_append_63 : decode cX4_append 63 = .ok (.iinc 4 (-8), 3) := dk_132 4 248 (dk_at dksX4_append_2 16 rfl rfl)
theorem dX4_append_66 : decode cX4_append 66 = .ok (.goto (-58), 3) := dk_167 255 198 (dk_at dksX4_append_2 19 rfl rfl)
theorem dX4_append_69 : decode cX4_append 69 = .ok (.aload_n 0, 1) := dk_42 (dk_at dksX4_append_2 22 rfl rfl)
theorem dX4_append_70 : decode cX4_append 70 = .ok (.iload_n 3, 1) := dk_29 (dk_at dksX4_append_2 23 rfl rfl)
theorem dX4_append_71 : decode cX4_append 71 = .ok (.ifCond .ne 7, 3) := dk_154 0 7 (dk_at dksX4_append_3 0 rfl rfl)
theorem dX4_append_74 : decode cX4_append 74 = .ok (.iconst 1, 1) := dk_4 (dk_at dksX4_append_3 3 rfl rfl)
theorem dX4_append_75 : decode cX4_append 75 = .ok (.goto 19, 3) := dk_167 0 19 (dk_at dksX4_append_3 4 rfl rfl)
theorem dX4_append_78 : decode cX4_append 78 = .ok (.aload_n 0, 1) := dk_42 (dk_at dksX4_append_3 7 rfl rfl)
theorem dX4_append_79 : decode cX4_append 79 = .ok (.getfield 253, 3) := dk_180 0 253 (dk_at dksX4_append_3 8 rfl rfl)
theorem dX4_append_82 : decode cX4_append 82 = .ok (.iload_n 2, 1) := dk_28 (dk_at dksX4_append_3 11 rfl rfl)
theorem dX4_append_83 : decode cX4_append 83 = .ok (.iadd, 1) := dk_96 (dk_at dksX4_append_3 12 rfl rfl)
theorem dX4_append_84 : decode cX4_append 84 = .ok (.bipush 60, 2) := dk_16 60 (dk_at dksX4_append_3 13 rfl rfl)
theorem dX4_append_86 : decode cX4_append 86 = .ok (.if_icmp .le 7, 3) := dk_164 0 7 (dk_at dksX4_append_3 15 rfl rfl)
theorem dX4_append_89 : decode cX4_append 89 = .ok (.iconst 2, 1) := dk_5 (dk_at dksX4_append_3 18 rfl rfl)
theorem dX4_append_90 : decode cX4_append 90 = .ok (.goto 4, 3) := dk_167 0 4 (dk_at dksX4_append_3 19 rfl rfl)
theorem dX4_append_93 : decode cX4_append 93 = .ok (.iconst 0, 1) := dk_3 (dk_at dksX4_append_3 22 rfl rfl)
theorem dX4_append_94 : decode cX4_append 94 = .ok (.putfield 69, 3) := dk_181 0 69 (dk_at dksX4_append_4 0 rfl rfl)
theorem dX4_append_97 : decode cX4_append 97 = .ok (.bipush 24, 2) := dk_16 24 (dk_at dksX4_append_4 3 rfl rfl)
theorem dX4_append_99 : decode cX4_append 99 = .ok (.istore 4, 2) := dk_54 4 (dk_at dksX4_append_4 5 rfl rfl)
theorem dX4_append_101 : decode cX4_append 101 = .ok (.iload 4, 2) := dk_21 4 (dk_at dksX4_append_4 7 rfl rfl)
theorem dX4_append_103 : decode cX4_append 103 = .ok (.ifCond .lt 52, 3) := dk_155 0 52 (dk_at dksX4_append_4 9 rfl rfl)
theorem dX4_append_106 : decode cX4_append 106 = .ok (.aload_n 0, 1) := dk_42 (dk_at dksX4_append_4 12 rfl rfl)
theorem dX4_append_107 : decode cX4_append 107 = .ok (.getfield 69, 3) := dk_180 0 69 (dk_at dksX4_append_4 13 rfl rfl)
theorem dX4_append_110 : decode cX4_append 110 = .ok (.ifCond .ne 45, 3) := dk_154 0 45 (dk_at dksX4_append_4 16 rfl rfl)
theorem dX4_append_113 : decode cX4_append 113 = .ok (.iload_n 1, 1) := dk_27 (dk_at dksX4_append_4 19 rfl rfl)
theorem dX4_append_114 : decode cX4_append 114 = .ok (.iload 4, 2) := dk_21 4 (dk_at dksX4_append_4 20 rfl rfl)
theorem dX4_append_116 : decode cX4_append 116 = .ok (.iushr, 1) := dk_124 (dk_at dksX4_append_4 22 rfl rfl)
theorem dX4_append_117 : decode cX4_append 117 = .ok (.sipush 255, 3) := dk_17 0 255 (dk_at dksX4_append_5 0 rfl rfl)
theorem dX4_append_120 : decode cX4_append 120 = .ok (.iand, 1) := dk_126 (dk_at dksX4_append_5 3 rfl rfl)
theorem dX4_append_121 : decode cX4_append 121 = .ok (.istore 5, 2) := dk_54 5 (dk_at dksX4_append_5 4 rfl rfl)
theorem dX4_append_123 : decode cX4_append 123 = .ok (.iload 5, 2) := dk_21 5 (dk_at dksX4_append_5 6 rfl rfl)
theorem dX4_append_125 : decode cX4_append 125 = .ok (.ifCond .eq 24, 3) := dk_153 0 24 (dk_at dksX4_append_5 8 rfl rfl)
theorem dX4_append_128 : decode cX4_append 128 = .ok (.aload_n 0, 1) := dk_42 (dk_at dksX4_append_5 11 rfl rfl)
theorem dX4_append_129 : decode cX4_append 129 = .ok (.getfield 53, 3) := dk_180 0 53 (dk_at dksX4_append_5 12 rfl rfl)
theorem dX4_append_132 : decode cX4_append 132 = .ok (.aload_n 0, 1) := dk_42 (dk_at dksX4_append_5 15 rfl rfl)
theorem dX4_append_133 : decode cX4_append 133 = .ok (.getfield 253, 3) := dk_180 0 253 (dk_at dksX4_append_5 16 rfl rfl)
theorem dX4_append_136 : decode cX4_append 136 = .ok (.iload 5, 2) := dk_21 5 (dk_at dksX4_append_5 19 rfl rfl)
theorem dX4_append_138 : decode cX4_append 138 = .ok (.iastore, 1) := dk_79 (dk_at dksX4_append_5 21 rfl rfl)
theorem dX4_append_139 : decode cX4_append 139 = .ok (.aload_n 0, 1) := dk_42 (dk_at dksX4_append_5 22 rfl rfl)
theorem dX4_append_140 : decode cX4_append 140 = .ok (.dup, 1) := dk_89 (dk_at dksX4_append_5 23 rfl rfl)
theorem dX4_append_141 : decode cX4_append 141 = .ok (.getfield 253, 3) := dk_180 0 253 (dk_at dksX4_append_6 0 rfl rfl)
theorem dX4_append_144 : decode cX4_append 144 = .ok (.iconst 1, 1) := dk_4 (dk_at dksX4_append_6 3 rfl rfl)
theorem dX4_append_145 : decode cX4_append 145 = .ok (.iadd, 1) := dk_96 (dk_at dksX4_append_6 4 rfl rfl)
theorem dX4_append_146 : decode cX4_append 146 = .ok (.putfield 253, 3) := dk_181 0 253 (dk_at dksX4_append_6 5 rfl rfl)
theorem dX4_append_149 : decode cX4_append 149 = .ok (.iinc 4 (-8), 3) := dk_132 4 248 (dk_at dksX4_append_6 8 rfl rfl)
theorem dX4_append_152 : decode cX4_append 152 = .ok (.goto (-51), 3) := dk_167 255 205 (dk_at dksX4_append_6 11 rfl rfl)
theorem dX4_append_155 : decode cX4_append 155 = .ok (.aload_n 0, 1) := dk_42 (dk_at dksX4_append_6 14 rfl rfl)
theorem dX4_append_156 : decode cX4_append 156 = .ok (.getfield 69, 3) := dk_180 0 69 (dk_at dksX4_append_6 15 rfl rfl)
theorem dX4_append_159 : decode cX4_append 159 = .ok (.ifCond .le 7, 3) := dk_158 0 7 (dk_at dksX4_append_6 18 rfl rfl)
theorem dX4_append_162 : decode cX4_append 162 = .ok (.iconst 0, 1) := dk_3 (dk_at dksX4_append_6 21 rfl rfl)
theorem dX4_append_163 : decode cX4_append 163 = .ok (.goto 7, 3) := dk_167 0 7 (dk_at dksX4_append_7 0 rfl rfl)
theorem dX4_append_166 : decode cX4_append 166 = .ok (.aload_n 0, 1) := dk_42 (dk_at dksX4_append_7 3 rfl rfl)
theorem dX4_append_167 : decode cX4_append 167 = .ok (.getfield 253, 3) := dk_180 0 253 (dk_at dksX4_append_7 4 rfl rfl)
theorem dX4_append_170 : decode cX4_append 170 = .ok (.ireturn, 1) := dk_172 (dk_at dksX4_append_7 7 rfl rfl)
abbrev cX4_read : ByteArray := prog_21_method_84_code
def yX4_read : MethodName := ⟨RX4, "read", "()I"⟩
def dkwX4_read_6 : List UInt8 := [181, 0, 69, 42, 3, 182, 0, 122, 172, 132, 1, 1, 167, 255, 217, 42, 42, 180, 1, 21, 182, 0, 122, 172]
abbrev dktX4_read_6 : List UInt8 := dkwX4_read_6 ++ []
def dkwX4_read_5 : List UInt8 := [162, 0, 37, 42, 27, 182, 1, 30, 42, 180, 0, 69, 158, 0, 19, 42, 27, 181, 0, 60, 42, 5]
abbrev dktX4_read_5 : List UInt8 := dkwX4_read_5 ++ dktX4_read_6
def dkwX4_read_4 : List UInt8 := [42, 180, 1, 3, 181, 0, 56, 42, 4, 182, 0, 119, 172, 42, 182, 0, 116, 3, 60, 27, 42, 180, 1, 21]
abbrev dktX4_read_4 : List UInt8 := dkwX4_read_4 ++ dktX4_read_5
def dkwX4_read_3 : List UInt8 := [162, 0, 7, 4, 167, 0, 4, 3, 181, 0, 255, 42, 3, 181, 0, 253, 42, 180, 0, 255, 153, 0, 17, 42]
abbrev dktX4_read_3 : List UInt8 := dkwX4_read_3 ++ dktX4_read_4
def dkwX4_read_2 : List UInt8 := [60, 42, 182, 1, 27, 167, 255, 222, 42, 42, 180, 0, 255, 154, 0, 14, 42, 180, 1, 3, 42, 180, 0, 253]
abbrev dktX4_read_2 : List UInt8 := dkwX4_read_2 ++ dktX4_read_3
def dkwX4_read_1 : List UInt8 := [182, 1, 6, 153, 0, 29, 42, 89, 180, 1, 3, 4, 96, 181, 1, 3, 42, 16, 32, 16, 32, 182, 1, 10]
abbrev dktX4_read_1 : List UInt8 := dkwX4_read_1 ++ dktX4_read_2
def dkwX4_read_0 : List UInt8 := [42, 3, 181, 1, 3, 42, 3, 181, 0, 255, 42, 3, 181, 1, 21, 42, 182, 1, 27, 42, 16, 59, 16, 59]
abbrev dktX4_read_0 : List UInt8 := dkwX4_read_0 ++ dktX4_read_1
theorem dksX4_read_0 : cX4_read.data.toList.drop 0 = dktX4_read_0 := by decide +kernel
theorem dksX4_read_1 : cX4_read.data.toList.drop 24 = dktX4_read_1 := dk_seg dksX4_read_0 24 rfl rfl
theorem dksX4_read_2 : cX4_read.data.toList.drop 48 = dktX4_read_2 := dk_seg dksX4_read_1 24 rfl rfl
theorem dksX4_read_3 : cX4_read.data.toList.drop 72 = dktX4_read_3 := dk_seg dksX4_read_2 24 rfl rfl
theorem dksX4_read_4 : cX4_read.data.toList.drop 96 = dktX4_read_4 := dk_seg dksX4_read_3 24 rfl rfl
theorem dksX4_read_5 : cX4_read.data.toList.drop 120 = dktX4_read_5 := dk_seg dksX4_read_4 24 rfl rfl
theorem dksX4_read_6 : cX4_read.data.toList.drop 142 = dktX4_read_6 := dk_seg dksX4_read_5 22 rfl rfl
theorem dX4_read_0 : decode cX4_read 0 = .ok (.aload_n 0, 1) := dk_42 (dk_at dksX4_read_0 0 rfl rfl)
theorem dX4_read_1 : decode cX4_read 1 = .ok (.iconst 0, 1) := dk_3 (dk_at dksX4_read_0 1 rfl rfl)
theorem dX4_read_2 : decode cX4_read 2 = .ok (.putfield 259, 3) := dk_181 1 3 (dk_at dksX4_read_0 2 rfl rfl)
theorem dX4_read_5 : decode cX4_read 5 = .ok (.aload_n 0, 1) := dk_42 (dk_at dksX4_read_0 5 rfl rfl)
theorem dX4_read_6 : decode cX4_read 6 = .ok (.iconst 0, 1) := dk_3 (dk_at dksX4_read_0 6 rfl rfl)
theorem dX4_read_7 : decode cX4_read 7 = .ok (.putfield 255, 3) := dk_181 0 255 (dk_at dksX4_read_0 7 rfl rfl)
theorem dX4_read_10 : decode cX4_read 10 = .ok (.aload_n 0, 1) := dk_42 (dk_at dksX4_read_0 10 rfl rfl)
theorem dX4_read_11 : decode cX4_read 11 = .ok (.iconst 0, 1) := dk_3 (dk_at dksX4_read_0 11 rfl rfl)
theorem dX4_read_12 : decode cX4_read 12 = .ok (.putfield 277, 3) := dk_181 1 21 (dk_at dksX4_read_0 12 rfl rfl)
theorem dX4_read_15 : decode cX4_read 15 = .ok (.aload_n 0, 1) := dk_42 (dk_at dksX4_read_0 15 rfl rfl)
theorem dX4_read_16 : decode cX4_read 16 = .ok (.invokevirtual 283, 3) := dk_182 1 27 (dk_at dksX4_read_0 16 rfl rfl)
theorem dX4_read_19 : decode cX4_read 19 = .ok (.aload_n 0, 1) := dk_42 (dk_at dksX4_read_0 19 rfl rfl)
theorem dX4_read_20 : decode cX4_read 20 = .ok (.bipush 59, 2) := dk_16 59 (dk_at dksX4_read_0 20 rfl rfl)
theorem dX4_read_22 : decode cX4_read 22 = .ok (.bipush 59, 2) := dk_16 59 (dk_at dksX4_read_0 22 rfl rfl)
theorem dX4_read_24 : decode cX4_read 24 = .ok (.invokevirtual 262, 3) := dk_182 1 6 (dk_at dksX4_read_1 0 rfl rfl)
theorem dX4_read_27 : decode cX4_read 27 = .ok (.ifCond .eq 29, 3) := dk_153 0 29 (dk_at dksX4_read_1 3 rfl rfl)
theorem dX4_read_30 : decode cX4_read 30 = .ok (.aload_n 0, 1) := dk_42 (dk_at dksX4_read_1 6 rfl rfl)
theorem dX4_read_31 : decode cX4_read 31 = .ok (.dup, 1) := dk_89 (dk_at dksX4_read_1 7 rfl rfl)
theorem dX4_read_32 : decode cX4_read 32 = .ok (.getfield 259, 3) := dk_180 1 3 (dk_at dksX4_read_1 8 rfl rfl)
theorem dX4_read_35 : decode cX4_read 35 = .ok (.iconst 1, 1) := dk_4 (dk_at dksX4_read_1 11 rfl rfl)
theorem dX4_read_36 : decode cX4_read 36 = .ok (.iadd, 1) := dk_96 (dk_at dksX4_read_1 12 rfl rfl)
theorem dX4_read_37 : decode cX4_read 37 = .ok (.putfield 259, 3) := dk_181 1 3 (dk_at dksX4_read_1 13 rfl rfl)
theorem dX4_read_40 : decode cX4_read 40 = .ok (.aload_n 0, 1) := dk_42 (dk_at dksX4_read_1 16 rfl rfl)
theorem dX4_read_41 : decode cX4_read 41 = .ok (.bipush 32, 2) := dk_16 32 (dk_at dksX4_read_1 17 rfl rfl)
theorem dX4_read_43 : decode cX4_read 43 = .ok (.bipush 32, 2) := dk_16 32 (dk_at dksX4_read_1 19 rfl rfl)
theorem dX4_read_45 : decode cX4_read 45 = .ok (.invokevirtual 266, 3) := dk_182 1 10 (dk_at dksX4_read_1 21 rfl rfl)
theorem dX4_read_48 : decode cX4_read 48 = .ok (.istore_n 1, 1) := dk_60 (dk_at dksX4_read_2 0 rfl rfl)
theorem dX4_read_49 : decode cX4_read 49 = .ok (.aload_n 0, 1) := dk_42 (dk_at dksX4_read_2 1 rfl rfl)
theorem dX4_read_50 : decode cX4_read 50 = .ok (.invokevirtual 283, 3) := dk_182 1 27 (dk_at dksX4_read_2 2 rfl rfl)
theorem dX4_read_53 : decode cX4_read 53 = .ok (.goto (-34), 3) := dk_167 255 222 (dk_at dksX4_read_2 5 rfl rfl)
theorem dX4_read_56 : decode cX4_read 56 = .ok (.aload_n 0, 1) := dk_42 (dk_at dksX4_read_2 8 rfl rfl)
theorem dX4_read_57 : decode cX4_read 57 = .ok (.aload_n 0, 1) := dk_42 (dk_at dksX4_read_2 9 rfl rfl)
theorem dX4_read_58 : decode cX4_read 58 = .ok (.getfield 255, 3) := dk_180 0 255 (dk_at dksX4_read_2 10 rfl rfl)
theorem dX4_read_61 : decode cX4_read 61 = .ok (.ifCond .ne 14, 3) := dk_154 0 14 (dk_at dksX4_read_2 13 rfl rfl)
theorem dX4_read_64 : decode cX4_read 64 = .ok (.aload_n 0, 1) := dk_42 (dk_at dksX4_read_2 16 rfl rfl)
theorem dX4_read_65 : decode cX4_read 65 = .ok (.getfield 259, 3) := dk_180 1 3 (dk_at dksX4_read_2 17 rfl rfl)
theorem dX4_read_68 : decode cX4_read 68 = .ok (.aload_n 0, 1) := dk_42 (dk_at dksX4_read_2 20 rfl rfl)
theorem dX4_read_69 : decode cX4_read 69 = .ok (.getfield 253, 3) := dk_180 0 253 (dk_at dksX4_read_2 21 rfl rfl)
theorem dX4_read_72 : decode cX4_read 72 = .ok (.if_icmp .ge 7, 3) := dk_162 0 7 (dk_at dksX4_read_3 0 rfl rfl)
theorem dX4_read_75 : decode cX4_read 75 = .ok (.iconst 1, 1) := dk_4 (dk_at dksX4_read_3 3 rfl rfl)
theorem dX4_read_76 : decode cX4_read 76 = .ok (.goto 4, 3) := dk_167 0 4 (dk_at dksX4_read_3 4 rfl rfl)
theorem dX4_read_79 : decode cX4_read 79 = .ok (.iconst 0, 1) := dk_3 (dk_at dksX4_read_3 7 rfl rfl)
theorem dX4_read_80 : decode cX4_read 80 = .ok (.putfield 255, 3) := dk_181 0 255 (dk_at dksX4_read_3 8 rfl rfl)
theorem dX4_read_83 : decode cX4_read 83 = .ok (.aload_n 0, 1) := dk_42 (dk_at dksX4_read_3 11 rfl rfl)
theorem dX4_read_84 : decode cX4_read 84 = .ok (.iconst 0, 1) := dk_3 (dk_at dksX4_read_3 12 rfl rfl)
theorem dX4_read_85 : decode cX4_read 85 = .ok (.putfield 253, 3) := dk_181 0 253 (dk_at dksX4_read_3 13 rfl rfl)
theorem dX4_read_88 : decode cX4_read 88 = .ok (.aload_n 0, 1) := dk_42 (dk_at dksX4_read_3 16 rfl rfl)
theorem dX4_read_89 : decode cX4_read 89 = .ok (.getfield 255, 3) := dk_180 0 255 (dk_at dksX4_read_3 17 rfl rfl)
theorem dX4_read_92 : decode cX4_read 92 = .ok (.ifCond .eq 17, 3) := dk_153 0 17 (dk_at dksX4_read_3 20 rfl rfl)
theorem dX4_read_95 : decode cX4_read 95 = .ok (.aload_n 0, 1) := dk_42 (dk_at dksX4_read_3 23 rfl rfl)
theorem dX4_read_96 : decode cX4_read 96 = .ok (.aload_n 0, 1) := dk_42 (dk_at dksX4_read_4 0 rfl rfl)
theorem dX4_read_97 : decode cX4_read 97 = .ok (.getfield 259, 3) := dk_180 1 3 (dk_at dksX4_read_4 1 rfl rfl)
theorem dX4_read_100 : decode cX4_read 100 = .ok (.putfield 56, 3) := dk_181 0 56 (dk_at dksX4_read_4 4 rfl rfl)
theorem dX4_read_103 : decode cX4_read 103 = .ok (.aload_n 0, 1) := dk_42 (dk_at dksX4_read_4 7 rfl rfl)
theorem dX4_read_104 : decode cX4_read 104 = .ok (.iconst 1, 1) := dk_4 (dk_at dksX4_read_4 8 rfl rfl)
theorem dX4_read_105 : decode cX4_read 105 = .ok (.invokevirtual 119, 3) := dk_182 0 119 (dk_at dksX4_read_4 9 rfl rfl)
theorem dX4_read_108 : decode cX4_read 108 = .ok (.ireturn, 1) := dk_172 (dk_at dksX4_read_4 12 rfl rfl)
theorem dX4_read_109 : decode cX4_read 109 = .ok (.aload_n 0, 1) := dk_42 (dk_at dksX4_read_4 13 rfl rfl)
theorem dX4_read_110 : decode cX4_read 110 = .ok (.invokevirtual 116, 3) := dk_182 0 116 (dk_at dksX4_read_4 14 rfl rfl)
theorem dX4_read_113 : decode cX4_read 113 = .ok (.iconst 0, 1) := dk_3 (dk_at dksX4_read_4 17 rfl rfl)
theorem dX4_read_114 : decode cX4_read 114 = .ok (.istore_n 1, 1) := dk_60 (dk_at dksX4_read_4 18 rfl rfl)
theorem dX4_read_115 : decode cX4_read 115 = .ok (.iload_n 1, 1) := dk_27 (dk_at dksX4_read_4 19 rfl rfl)
theorem dX4_read_116 : decode cX4_read 116 = .ok (.aload_n 0, 1) := dk_42 (dk_at dksX4_read_4 20 rfl rfl)
theorem dX4_read_117 : decode cX4_read 117 = .ok (.getfield 277, 3) := dk_180 1 21 (dk_at dksX4_read_4 21 rfl rfl)
theorem dX4_read_120 : decode cX4_read 120 = .ok (.if_icmp .ge 37, 3) := dk_162 0 37 (dk_at dksX4_read_5 0 rfl rfl)
theorem dX4_read_123 : decode cX4_read 123 = .ok (.aload_n 0, 1) := dk_42 (dk_at dksX4_read_5 3 rfl rfl)
theorem dX4_read_124 : decode cX4_read 124 = .ok (.iload_n 1, 1) := dk_27 (dk_at dksX4_read_5 4 rfl rfl)
theorem dX4_read_125 : decode cX4_read 125 = .ok (.invokevirtual 286, 3) := dk_182 1 30 (dk_at dksX4_read_5 5 rfl rfl)
theorem dX4_read_128 : decode cX4_read 128 = .ok (.aload_n 0, 1) := dk_42 (dk_at dksX4_read_5 8 rfl rfl)
theorem dX4_read_129 : decode cX4_read 129 = .ok (.getfield 69, 3) := dk_180 0 69 (dk_at dksX4_read_5 9 rfl rfl)
theorem dX4_read_132 : decode cX4_read 132 = .ok (.ifCond .le 19, 3) := dk_158 0 19 (dk_at dksX4_read_5 12 rfl rfl)
theorem dX4_read_135 : decode cX4_read 135 = .ok (.aload_n 0, 1) := dk_42 (dk_at dksX4_read_5 15 rfl rfl)
theorem dX4_read_136 : decode cX4_read 136 = .ok (.iload_n 1, 1) := dk_27 (dk_at dksX4_read_5 16 rfl rfl)
theorem dX4_read_137 : decode cX4_read 137 = .ok (.putfield 60, 3) := dk_181 0 60 (dk_at dksX4_read_5 17 rfl rfl)
theorem dX4_read_140 : decode cX4_read 140 = .ok (.aload_n 0, 1) := dk_42 (dk_at dksX4_read_5 20 rfl rfl)
theorem dX4_read_141 : decode cX4_read 141 = .ok (.iconst 2, 1) := dk_5 (dk_at dksX4_read_5 21 rfl rfl)
theorem dX4_read_142 : decode cX4_read 142 = .ok (.putfield 69, 3) := dk_181 0 69 (dk_at dksX4_read_6 0 rfl rfl)
theorem dX4_read_145 : decode cX4_read 145 = .ok (.aload_n 0, 1) := dk_42 (dk_at dksX4_read_6 3 rfl rfl)
theorem dX4_read_146 : decode cX4_read 146 = .ok (.iconst 0, 1) := dk_3 (dk_at dksX4_read_6 4 rfl rfl)
theorem dX4_read_147 : decode cX4_read 147 = .ok (.invokevirtual 122, 3) := dk_182 0 122 (dk_at dksX4_read_6 5 rfl rfl)
theorem dX4_read_150 : decode cX4_read 150 = .ok (.ireturn, 1) := dk_172 (dk_at dksX4_read_6 8 rfl rfl)
theorem dX4_read_151 : decode cX4_read 151 = .ok (.iinc 1 1, 3) := dk_132 1 1 (dk_at dksX4_read_6 9 rfl rfl)
theorem dX4_read_154 : decode cX4_read 154 = .ok (.goto (-39), 3) := dk_167 255 217 (dk_at dksX4_read_6 12 rfl rfl)
theorem dX4_read_157 : decode cX4_read 157 = .ok (.aload_n 0, 1) := dk_42 (dk_at dksX4_read_6 15 rfl rfl)
theorem dX4_read_158 : decode cX4_read 158 = .ok (.aload_n 0, 1) := dk_42 (dk_at dksX4_read_6 16 rfl rfl)
theorem dX4_read_159 : decode cX4_read 159 = .ok (.getfield 277, 3) := dk_180 1 21 (dk_at dksX4_read_6 17 rfl rfl)
theorem dX4_read_162 : decode cX4_read 162 = .ok (.invokevirtual 122, 3) := dk_182 0 122 (dk_at dksX4_read_6 20 rfl rfl)
theorem dX4_read_165 : decode cX4_read 165 = .ok (.ireturn, 1) := dk_172 (dk_at dksX4_read_6 23 rfl rfl)
abbrev cX4_readItem : ByteArray := prog_21_method_82_code
def yX4_readItem : MethodName := ⟨RX4, "readItem", "()V"⟩
def dkwX4_readItem_8 : List UInt8 := [167, 0, 7, 42, 182, 1, 24, 79, 42, 89, 180, 1, 21, 4, 96, 181, 1, 21, 177]
abbrev dktX4_readItem_8 : List UInt8 := dkwX4_readItem_8 ++ []
def dkwX4_readItem_7 : List UInt8 := [16, 32, 16, 32, 182, 1, 10, 54, 4, 42, 180, 0, 63, 29, 5, 96, 28, 154, 0, 10, 42, 182, 1, 14]
abbrev dktX4_readItem_7 : List UInt8 := dkwX4_readItem_7 ++ dktX4_readItem_8
def dkwX4_readItem_6 : List UInt8 := [3, 167, 0, 7, 42, 182, 1, 14, 79, 28, 153, 0, 13, 28, 5, 161, 0, 41, 28, 7, 163, 0, 36, 42]
abbrev dktX4_readItem_6 : List UInt8 := dkwX4_readItem_6 ++ dktX4_readItem_7
def dkwX4_readItem_5 : List UInt8 := [96, 28, 5, 162, 0, 10, 42, 182, 1, 24, 167, 0, 22, 28, 8, 159, 0, 9, 28, 16, 8, 160, 0, 7]
abbrev dktX4_readItem_5 : List UInt8 := dkwX4_readItem_5 ++ dktX4_readItem_6
def dkwX4_readItem_4 : List UInt8 := [153, 0, 4, 177, 6, 42, 180, 1, 21, 104, 62, 42, 180, 0, 63, 29, 28, 79, 42, 180, 0, 63, 29, 4]
abbrev dktX4_readItem_4 : List UInt8 := dkwX4_readItem_4 ++ dktX4_readItem_5
def dkwX4_readItem_3 : List UInt8 := [27, 96, 181, 1, 3, 42, 28, 156, 0, 7, 4, 167, 0, 4, 3, 181, 0, 255, 42, 180, 0, 255]
abbrev dktX4_readItem_3 : List UInt8 := dkwX4_readItem_3 ++ dktX4_readItem_4
def dkwX4_readItem_2 : List UInt8 := [29, 167, 0, 4, 28, 61, 27, 21, 4, 184, 0, 110, 60, 132, 3, 1, 167, 255, 198, 42, 89, 180, 1, 3]
abbrev dktX4_readItem_2 : List UInt8 := dkwX4_readItem_2 ++ dktX4_readItem_3
def dkwX4_readItem_1 : List UInt8 := [180, 0, 49, 29, 50, 182, 1, 17, 54, 4, 21, 4, 42, 180, 0, 49, 29, 50, 182, 0, 206, 160, 0, 7]
abbrev dktX4_readItem_1 : List UInt8 := dkwX4_readItem_1 ++ dktX4_readItem_2
def dkwX4_readItem_0 : List UInt8 := [3, 60, 2, 61, 3, 62, 29, 42, 180, 0, 49, 190, 162, 0, 55, 42, 180, 0, 255, 154, 0, 48, 42, 42]
abbrev dktX4_readItem_0 : List UInt8 := dkwX4_readItem_0 ++ dktX4_readItem_1
theorem dksX4_readItem_0 : cX4_readItem.data.toList.drop 0 = dktX4_readItem_0 := by decide +kernel
theorem dksX4_readItem_1 : cX4_readItem.data.toList.drop 24 = dktX4_readItem_1 := dk_seg dksX4_readItem_0 24 rfl rfl
theorem dksX4_readItem_2 : cX4_readItem.data.toList.drop 48 = dktX4_readItem_2 := dk_seg dksX4_readItem_1 24 rfl rfl
theorem dksX4_readItem_3 : cX4_readItem.data.toList.drop 72 = dktX4_readItem_3 := dk_seg dksX4_readItem_2 24 rfl rfl
theorem dksX4_readItem_4 : cX4_readItem.data.toList.drop 94 = dktX4_readItem_4 := dk_seg dksX4_readItem_3 22 rfl rfl
theorem dksX4_readItem_5 : cX4_readItem.data.toList.drop 118 = dktX4_readItem_5 := dk_seg dksX4_readItem_4 24 rfl rfl
theorem dksX4_readItem_6 : cX4_readItem.data.toList.drop 142 = dktX4_readItem_6 := dk_seg dksX4_readItem_5 24 rfl rfl
theorem dksX4_readItem_7 : cX4_readItem.data.toList.drop 166 = dktX4_readItem_7 := dk_seg dksX4_readItem_6 24 rfl rfl
theorem dksX4_readItem_8 : cX4_readItem.data.toList.drop 190 = dktX4_readItem_8 := dk_seg dksX4_readItem_7 24 rfl rfl
theorem dX4_readItem_0 : decode cX4_readItem 0 = .ok (.iconst 0, 1) := dk_3 (dk_at dksX4_readItem_0 0 rfl rfl)
theorem dX4_readItem_1 : decode cX4_readItem 1 = .ok (.istore_n 1, 1) := dk_60 (dk_at dksX4_readItem_0 1 rfl rfl)
theorem dX4_readItem_2 : decode cX4_readItem 2 = .ok (.iconst (-1), 1) := dk_2 (dk_at dksX4_readItem_0 2 rfl rfl)
theorem dX4_readItem_3 : decode cX4_readItem 3 = .ok (.istore_n 2, 1) := dk_61 (dk_at dksX4_readItem_0 3 rfl rfl)
theorem dX4_readItem_4 : decode cX4_readItem 4 = .ok (.iconst 0, 1) := dk_3 (dk_at dksX4_readItem_0 4 rfl rfl)
theorem dX4_readItem_5 : decode cX4_readItem 5 = .ok (.istore_n 3, 1) := dk_62 (dk_at dksX4_readItem_0 5 rfl rfl)
theorem dX4_readItem_6 : decode cX4_readItem 6 = .ok (.iload_n 3, 1) := dk_29 (dk_at dksX4_readItem_0 6 rfl rfl)
theorem dX4_readItem_7 : decode cX4_readItem 7 = .ok (.aload_n 0, 1) := dk_42 (dk_at dksX4_readItem_0 7 rfl rfl)
theorem dX4_readItem_8 : decode cX4_readItem 8 = .ok (.getfield 49, 3) := dk_180 0 49 (dk_at dksX4_readItem_0 8 rfl rfl)
theorem dX4_readItem_11 : decode cX4_readItem 11 = .ok (.arraylength, 1) := dk_190 (dk_at dksX4_readItem_0 11 rfl rfl)
theorem dX4_readItem_12 : decode cX4_readItem 12 = .ok (.if_icmp .ge 55, 3) := dk_162 0 55 (dk_at dksX4_readItem_0 12 rfl rfl)
theorem dX4_readItem_15 : decode cX4_readItem 15 = .ok (.aload_n 0, 1) := dk_42 (dk_at dksX4_readItem_0 15 rfl rfl)
theorem dX4_readItem_16 : decode cX4_readItem 16 = .ok (.getfield 255, 3) := dk_180 0 255 (dk_at dksX4_readItem_0 16 rfl rfl)
theorem dX4_readItem_19 : decode cX4_readItem 19 = .ok (.ifCond .ne 48, 3) := dk_154 0 48 (dk_at dksX4_readItem_0 19 rfl rfl)
theorem dX4_readItem_22 : decode cX4_readItem 22 = .ok (.aload_n 0, 1) := dk_42 (dk_at dksX4_readItem_0 22 rfl rfl)
theorem dX4_readItem_23 : decode cX4_readItem 23 = .ok (.aload_n 0, 1) := dk_42 (dk_at dksX4_readItem_0 23 rfl rfl)
theorem dX4_readItem_24 : decode cX4_readItem 24 = .ok (.getfield 49, 3) := dk_180 0 49 (dk_at dksX4_readItem_1 0 rfl rfl)
theorem dX4_readItem_27 : decode cX4_readItem 27 = .ok (.iload_n 3, 1) := dk_29 (dk_at dksX4_readItem_1 3 rfl rfl)
theorem dX4_readItem_28 : decode cX4_readItem 28 = .ok (.aaload, 1) := dk_50 (dk_at dksX4_readItem_1 4 rfl rfl)
theorem dX4_readItem_29 : decode cX4_readItem 29 = .ok (.invokevirtual 273, 3) := dk_182 1 17 (dk_at dksX4_readItem_1 5 rfl rfl)
theorem dX4_readItem_32 : decode cX4_readItem 32 = .ok (.istore 4, 2) := dk_54 4 (dk_at dksX4_readItem_1 8 rfl rfl)
theorem dX4_readItem_34 : decode cX4_readItem 34 = .ok (.iload 4, 2) := dk_21 4 (dk_at dksX4_readItem_1 10 rfl rfl)
theorem dX4_readItem_36 : decode cX4_readItem 36 = .ok (.aload_n 0, 1) := dk_42 (dk_at dksX4_readItem_1 12 rfl rfl)
theorem dX4_readItem_37 : decode cX4_readItem 37 = .ok (.getfield 49, 3) := dk_180 0 49 (dk_at dksX4_readItem_1 13 rfl rfl)
theorem dX4_readItem_40 : decode cX4_readItem 40 = .ok (.iload_n 3, 1) := dk_29 (dk_at dksX4_readItem_1 16 rfl rfl)
theorem dX4_readItem_41 : decode cX4_readItem 41 = .ok (.aaload, 1) := dk_50 (dk_at dksX4_readItem_1 17 rfl rfl)
theorem dX4_readItem_42 : decode cX4_readItem 42 = .ok (.invokevirtual 206, 3) := dk_182 0 206 (dk_at dksX4_readItem_1 18 rfl rfl)
theorem dX4_readItem_45 : decode cX4_readItem 45 = .ok (.if_icmp .ne 7, 3) := dk_160 0 7 (dk_at dksX4_readItem_1 21 rfl rfl)
theorem dX4_readItem_48 : decode cX4_readItem 48 = .ok (.iload_n 3, 1) := dk_29 (dk_at dksX4_readItem_2 0 rfl rfl)
theorem dX4_readItem_49 : decode cX4_readItem 49 = .ok (.goto 4, 3) := dk_167 0 4 (dk_at dksX4_readItem_2 1 rfl rfl)
theorem dX4_readItem_52 : decode cX4_readItem 52 = .ok (.iload_n 2, 1) := dk_28 (dk_at dksX4_readItem_2 4 rfl rfl)
theorem dX4_readItem_53 : decode cX4_readItem 53 = .ok (.istore_n 2, 1) := dk_61 (dk_at dksX4_readItem_2 5 rfl rfl)
theorem dX4_readItem_54 : decode cX4_readItem 54 = .ok (.iload_n 1, 1) := dk_27 (dk_at dksX4_readItem_2 6 rfl rfl)
theorem dX4_readItem_55 : decode cX4_readItem 55 = .ok (.iload 4, 2) := dk_21 4 (dk_at dksX4_readItem_2 7 rfl rfl)
theorem dX4_readItem_57 : decode cX4_readItem 57 = .ok (.invokestatic 110, 3) := dk_184 0 110 (dk_at dksX4_readItem_2 9 rfl rfl)
theorem dX4_readItem_60 : decode cX4_readItem 60 = .ok (.istore_n 1, 1) := dk_60 (dk_at dksX4_readItem_2 12 rfl rfl)
theorem dX4_readItem_61 : decode cX4_readItem 61 = .ok (.iinc 3 1, 3) := dk_132 3 1 (dk_at dksX4_readItem_2 13 rfl rfl)
theorem dX4_readItem_64 : decode cX4_readItem 64 = .ok (.goto (-58), 3) := dk_167 255 198 (dk_at dksX4_readItem_2 16 rfl rfl)
theorem dX4_readItem_67 : decode cX4_readItem 67 = .ok (.aload_n 0, 1) := dk_42 (dk_at dksX4_readItem_2 19 rfl rfl)
theorem dX4_readItem_68 : decode cX4_readItem 68 = .ok (.dup, 1) := dk_89 (dk_at dksX4_readItem_2 20 rfl rfl)
theorem dX4_readItem_69 : decode cX4_readItem 69 = .ok (.getfield 259, 3) := dk_180 1 3 (dk_at dksX4_readItem_2 21 rfl rfl)
theorem dX4_readItem_72 : decode cX4_readItem 72 = .ok (.iload_n 1, 1) := dk_27 (dk_at dksX4_readItem_3 0 rfl rfl)
theorem dX4_readItem_73 : decode cX4_readItem 73 = .ok (.iadd, 1) := dk_96 (dk_at dksX4_readItem_3 1 rfl rfl)
theorem dX4_readItem_74 : decode cX4_readItem 74 = .ok (.putfield 259, 3) := dk_181 1 3 (dk_at dksX4_readItem_3 2 rfl rfl)
theorem dX4_readItem_77 : decode cX4_readItem 77 = .ok (.aload_n 0, 1) := dk_42 (dk_at dksX4_readItem_3 5 rfl rfl)
theorem dX4_readItem_78 : decode cX4_readItem 78 = .ok (.iload_n 2, 1) := dk_28 (dk_at dksX4_readItem_3 6 rfl rfl)
theorem dX4_readItem_79 : decode cX4_readItem 79 = .ok (.ifCond .ge 7, 3) := dk_156 0 7 (dk_at dksX4_readItem_3 7 rfl rfl)
theorem dX4_readItem_82 : decode cX4_readItem 82 = .ok (.iconst 1, 1) := dk_4 (dk_at dksX4_readItem_3 10 rfl rfl)
theorem dX4_readItem_83 : decode cX4_readItem 83 = .ok (.goto 4, 3) := dk_167 0 4 (dk_at dksX4_readItem_3 11 rfl rfl)
theorem dX4_readItem_86 : decode cX4_readItem 86 = .ok (.iconst 0, 1) := dk_3 (dk_at dksX4_readItem_3 14 rfl rfl)
theorem dX4_readItem_87 : decode cX4_readItem 87 = .ok (.putfield 255, 3) := dk_181 0 255 (dk_at dksX4_readItem_3 15 rfl rfl)
theorem dX4_readItem_90 : decode cX4_readItem 90 = .ok (.aload_n 0, 1) := dk_42 (dk_at dksX4_readItem_3 18 rfl rfl)
theorem dX4_readItem_91 : decode cX4_readItem 91 = .ok (.getfield 255, 3) := dk_180 0 255 (dk_at dksX4_readItem_3 19 rfl rfl)
theorem dX4_readItem_94 : decode cX4_readItem 94 = .ok (.ifCond .eq 4, 3) := dk_153 0 4 (dk_at dksX4_readItem_4 0 rfl rfl)
theorem dX4_readItem_97 : decode cX4_readItem 97 = .ok (.return_, 1) := dk_177 (dk_at dksX4_readItem_4 3 rfl rfl)
theorem dX4_readItem_98 : decode cX4_readItem 98 = .ok (.iconst 3, 1) := dk_6 (dk_at dksX4_readItem_4 4 rfl rfl)
theorem dX4_readItem_99 : decode cX4_readItem 99 = .ok (.aload_n 0, 1) := dk_42 (dk_at dksX4_readItem_4 5 rfl rfl)
theorem dX4_readItem_100 : decode cX4_readItem 100 = .ok (.getfield 277, 3) := dk_180 1 21 (dk_at dksX4_readItem_4 6 rfl rfl)
theorem dX4_readItem_103 : decode cX4_readItem 103 = .ok (.imul, 1) := dk_104 (dk_at dksX4_readItem_4 9 rfl rfl)
theorem dX4_readItem_104 : decode cX4_readItem 104 = .ok (.istore_n 3, 1) := dk_62 (dk_at dksX4_readItem_4 10 rfl rfl)
theorem dX4_readItem_105 : decode cX4_readItem 105 = .ok (.aload_n 0, 1) := dk_42 (dk_at dksX4_readItem_4 11 rfl rfl)
theorem dX4_readItem_106 : decode cX4_readItem 106 = .ok (.getfield 63, 3) := dk_180 0 63 (dk_at dksX4_readItem_4 12 rfl rfl)
theorem dX4_readItem_109 : decode cX4_readItem 109 = .ok (.iload_n 3, 1) := dk_29 (dk_at dksX4_readItem_4 15 rfl rfl)
theorem dX4_readItem_110 : decode cX4_readItem 110 = .ok (.iload_n 2, 1) := dk_28 (dk_at dksX4_readItem_4 16 rfl rfl)
theorem dX4_readItem_111 : decode cX4_readItem 111 = .ok (.iastore, 1) := dk_79 (dk_at dksX4_readItem_4 17 rfl rfl)
theorem dX4_readItem_112 : decode cX4_readItem 112 = .ok (.aload_n 0, 1) := dk_42 (dk_at dksX4_readItem_4 18 rfl rfl)
theorem dX4_readItem_113 : decode cX4_readItem 113 = .ok (.getfield 63, 3) := dk_180 0 63 (dk_at dksX4_readItem_4 19 rfl rfl)
theorem dX4_readItem_116 : decode cX4_readItem 116 = .ok (.iload_n 3, 1) := dk_29 (dk_at dksX4_readItem_4 22 rfl rfl)
theorem dX4_readItem_117 : decode cX4_readItem 117 = .ok (.iconst 1, 1) := dk_4 (dk_at dksX4_readItem_4 23 rfl rfl)
theorem dX4_readItem_118 : decode cX4_readItem 118 = .ok (.iadd, 1) := dk_96 (dk_at dksX4_readItem_5 0 rfl rfl)
theorem dX4_readItem_119 : decode cX4_readItem 119 = .ok (.iload_n 2, 1) := dk_28 (dk_at dksX4_readItem_5 1 rfl rfl)
theorem dX4_readItem_120 : decode cX4_readItem 120 = .ok (.iconst 2, 1) := dk_5 (dk_at dksX4_readItem_5 2 rfl rfl)
theorem dX4_readItem_121 : decode cX4_readItem 121 = .ok (.if_icmp .ge 10, 3) := dk_162 0 10 (dk_at dksX4_readItem_5 3 rfl rfl)
theorem dX4_readItem_124 : decode cX4_readItem 124 = .ok (.aload_n 0, 1) := dk_42 (dk_at dksX4_readItem_5 6 rfl rfl)
theorem dX4_readItem_125 : decode cX4_readItem 125 = .ok (.invokevirtual 280, 3) := dk_182 1 24 (dk_at dksX4_readItem_5 7 rfl rfl)
theorem dX4_readItem_128 : decode cX4_readItem 128 = .ok (.goto 22, 3) := dk_167 0 22 (dk_at dksX4_readItem_5 10 rfl rfl)
theorem dX4_readItem_131 : decode cX4_readItem 131 = .ok (.iload_n 2, 1) := dk_28 (dk_at dksX4_readItem_5 13 rfl rfl)
theorem dX4_readItem_132 : decode cX4_readItem 132 = .ok (.iconst 5, 1) := dk_8 (dk_at dksX4_readItem_5 14 rfl rfl)
theorem dX4_readItem_133 : decode cX4_readItem 133 = .ok (.if_icmp .eq 9, 3) := dk_159 0 9 (dk_at dksX4_readItem_5 15 rfl rfl)
theorem dX4_readItem_136 : decode cX4_readItem 136 = .ok (.iload_n 2, 1) := dk_28 (dk_at dksX4_readItem_5 18 rfl rfl)
theorem dX4_readItem_137 : decode cX4_readItem 137 = .ok (.bipush 8, 2) := dk_16 8 (dk_at dksX4_readItem_5 19 rfl rfl)
theorem dX4_readItem_139 : decode cX4_readItem 139 = .ok (.if_icmp .ne 7, 3) := dk_160 0 7 (dk_at dksX4_readItem_5 21 rfl rfl)
theorem dX4_readItem_142 : decode cX4_readItem 142 = .ok (.iconst 0, 1) := dk_3 (dk_at dksX4_readItem_6 0 rfl rfl)
theorem dX4_readItem_143 : decode cX4_readItem 143 = .ok (.goto 7, 3) := dk_167 0 7 (dk_at dksX4_readItem_6 1 rfl rfl)
theorem dX4_readItem_146 : decode cX4_readItem 146 = .ok (.aload_n 0, 1) := dk_42 (dk_at dksX4_readItem_6 4 rfl rfl)
theorem dX4_readItem_147 : decode cX4_readItem 147 = .ok (.invokevirtual 270, 3) := dk_182 1 14 (dk_at dksX4_readItem_6 5 rfl rfl)
theorem dX4_readItem_150 : decode cX4_readItem 150 = .ok (.iastore, 1) := dk_79 (dk_at dksX4_readItem_6 8 rfl rfl)
theorem dX4_readItem_151 : decode cX4_readItem 151 = .ok (.iload_n 2, 1) := dk_28 (dk_at dksX4_readItem_6 9 rfl rfl)
theorem dX4_readItem_152 : decode cX4_readItem 152 = .ok (.ifCond .eq 13, 3) := dk_153 0 13 (dk_at dksX4_readItem_6 10 rfl rfl)
theorem dX4_readItem_155 : decode cX4_readItem 155 = .ok (.iload_n 2, 1) := dk_28 (dk_at dksX4_readItem_6 13 rfl rfl)
theorem dX4_readItem_156 : decode cX4_readItem 156 = .ok (.iconst 2, 1) := dk_5 (dk_at dksX4_readItem_6 14 rfl rfl)
theorem dX4_readItem_157 : decode cX4_readItem 157 = .ok (.if_icmp .lt 41, 3) := dk_161 0 41 (dk_at dksX4_readItem_6 15 rfl rfl)
theorem dX4_readItem_160 : decode cX4_readItem 160 = .ok (.iload_n 2, 1) := dk_28 (dk_at dksX4_readItem_6 18 rfl rfl)
theorem dX4_readItem_161 : decode cX4_readItem 161 = .ok (.iconst 4, 1) := dk_7 (dk_at dksX4_readItem_6 19 rfl rfl)
theorem dX4_readItem_162 : decode cX4_readItem 162 = .ok (.if_icmp .gt 36, 3) := dk_163 0 36 (dk_at dksX4_readItem_6 20 rfl rfl)
theorem dX4_readItem_165 : decode cX4_readItem 165 = .ok (.aload_n 0, 1) := dk_42 (dk_at dksX4_readItem_6 23 rfl rfl)
theorem dX4_readItem_166 : decode cX4_readItem 166 = .ok (.bipush 32, 2) := dk_16 32 (dk_at dksX4_readItem_7 0 rfl rfl)
theorem dX4_readItem_168 : decode cX4_readItem 168 = .ok (.bipush 32, 2) := dk_16 32 (dk_at dksX4_readItem_7 2 rfl rfl)
theorem dX4_readItem_170 : decode cX4_readItem 170 = .ok (.invokevirtual 266, 3) := dk_182 1 10 (dk_at dksX4_readItem_7 4 rfl rfl)
theorem dX4_readItem_173 : decode cX4_readItem 173 = .ok (.istore 4, 2) := dk_54 4 (dk_at dksX4_readItem_7 7 rfl rfl)
theorem dX4_readItem_175 : decode cX4_readItem 175 = .ok (.aload_n 0, 1) := dk_42 (dk_at dksX4_readItem_7 9 rfl rfl)
theorem dX4_readItem_176 : decode cX4_readItem 176 = .ok (.getfield 63, 3) := dk_180 0 63 (dk_at dksX4_readItem_7 10 rfl rfl)
theorem dX4_readItem_179 : decode cX4_readItem 179 = .ok (.iload_n 3, 1) := dk_29 (dk_at dksX4_readItem_7 13 rfl rfl)
theorem dX4_readItem_180 : decode cX4_readItem 180 = .ok (.iconst 2, 1) := dk_5 (dk_at dksX4_readItem_7 14 rfl rfl)
theorem dX4_readItem_181 : decode cX4_readItem 181 = .ok (.iadd, 1) := dk_96 (dk_at dksX4_readItem_7 15 rfl rfl)
theorem dX4_readItem_182 : decode cX4_readItem 182 = .ok (.iload_n 2, 1) := dk_28 (dk_at dksX4_readItem_7 16 rfl rfl)
theorem dX4_readItem_183 : decode cX4_readItem 183 = .ok (.ifCond .ne 10, 3) := dk_154 0 10 (dk_at dksX4_readItem_7 17 rfl rfl)
theorem dX4_readItem_186 : decode cX4_readItem 186 = .ok (.aload_n 0, 1) := dk_42 (dk_at dksX4_readItem_7 20 rfl rfl)
theorem dX4_readItem_187 : decode cX4_readItem 187 = .ok (.invokevirtual 270, 3) := dk_182 1 14 (dk_at dksX4_readItem_7 21 rfl rfl)
theorem dX4_readItem_190 : decode cX4_readItem 190 = .ok (.goto 7, 3) := dk_167 0 7 (dk_at dksX4_readItem_8 0 rfl rfl)
theorem dX4_readItem_193 : decode cX4_readItem 193 = .ok (.aload_n 0, 1) := dk_42 (dk_at dksX4_readItem_8 3 rfl rfl)
theorem dX4_readItem_194 : decode cX4_readItem 194 = .ok (.invokevirtual 280, 3) := dk_182 1 24 (dk_at dksX4_readItem_8 4 rfl rfl)
theorem dX4_readItem_197 : decode cX4_readItem 197 = .ok (.iastore, 1) := dk_79 (dk_at dksX4_readItem_8 7 rfl rfl)
theorem dX4_readItem_198 : decode cX4_readItem 198 = .ok (.aload_n 0, 1) := dk_42 (dk_at dksX4_readItem_8 8 rfl rfl)
theorem dX4_readItem_199 : decode cX4_readItem 199 = .ok (.dup, 1) := dk_89 (dk_at dksX4_readItem_8 9 rfl rfl)
theorem dX4_readItem_200 : decode cX4_readItem 200 = .ok (.getfield 277, 3) := dk_180 1 21 (dk_at dksX4_readItem_8 10 rfl rfl)
theorem dX4_readItem_203 : decode cX4_readItem 203 = .ok (.iconst 1, 1) := dk_4 (dk_at dksX4_readItem_8 13 rfl rfl)
theorem dX4_readItem_204 : decode cX4_readItem 204 = .ok (.iadd, 1) := dk_96 (dk_at dksX4_readItem_8 14 rfl rfl)
theorem dX4_readItem_205 : decode cX4_readItem 205 = .ok (.putfield 277, 3) := dk_181 1 21 (dk_at dksX4_readItem_8 15 rfl rfl)
theorem dX4_readItem_208 : decode cX4_readItem 208 = .ok (.return_, 1) := dk_177 (dk_at dksX4_readItem_8 18 rfl rfl)
abbrev cX4_alike : ByteArray := prog_21_method_81_code
def yX4_alike : MethodName := ⟨RX4, "alike", "(Ljava/lang/String;)I"⟩
def dkwX4_alike_2 : List UInt8 := [28, 172]
abbrev dktX4_alike_2 : List UInt8 := dkwX4_alike_2 ++ []
def dkwX4_alike_1 : List UInt8 := [180, 0, 53, 42, 180, 1, 3, 28, 96, 46, 43, 28, 182, 0, 212, 160, 0, 9, 132, 2, 1, 167, 255, 213]
abbrev dktX4_alike_1 : List UInt8 := dkwX4_alike_1 ++ dktX4_alike_2
def dkwX4_alike_0 : List UInt8 := [3, 61, 28, 43, 182, 0, 206, 162, 0, 41, 42, 180, 1, 3, 28, 96, 42, 180, 0, 253, 162, 0, 28, 42]
abbrev dktX4_alike_0 : List UInt8 := dkwX4_alike_0 ++ dktX4_alike_1
theorem dksX4_alike_0 : cX4_alike.data.toList.drop 0 = dktX4_alike_0 := by decide +kernel
theorem dksX4_alike_1 : cX4_alike.data.toList.drop 24 = dktX4_alike_1 := dk_seg dksX4_alike_0 24 rfl rfl
theorem dksX4_alike_2 : cX4_alike.data.toList.drop 48 = dktX4_alike_2 := dk_seg dksX4_alike_1 24 rfl rfl
theorem dX4_alike_0 : decode cX4_alike 0 = .ok (.iconst 0, 1) := dk_3 (dk_at dksX4_alike_0 0 rfl rfl)
theorem dX4_alike_1 : decode cX4_alike 1 = .ok (.istore_n 2, 1) := dk_61 (dk_at dksX4_alike_0 1 rfl rfl)
theorem dX4_alike_2 : decode cX4_alike 2 = .ok (.iload_n 2, 1) := dk_28 (dk_at dksX4_alike_0 2 rfl rfl)
theorem dX4_alike_3 : decode cX4_alike 3 = .ok (.aload_n 1, 1) := dk_43 (dk_at dksX4_alike_0 3 rfl rfl)
theorem dX4_alike_4 : decode cX4_alike 4 = .ok (.invokevirtual 206, 3) := dk_182 0 206 (dk_at dksX4_alike_0 4 rfl rfl)
theorem dX4_alike_7 : decode cX4_alike 7 = .ok (.if_icmp .ge 41, 3) := dk_162 0 41 (dk_at dksX4_alike_0 7 rfl rfl)
theorem dX4_alike_10 : decode cX4_alike 10 = .ok (.aload_n 0, 1) := dk_42 (dk_at dksX4_alike_0 10 rfl rfl)
theorem dX4_alike_11 : decode cX4_alike 11 = .ok (.getfield 259, 3) := dk_180 1 3 (dk_at dksX4_alike_0 11 rfl rfl)
theorem dX4_alike_14 : decode cX4_alike 14 = .ok (.iload_n 2, 1) := dk_28 (dk_at dksX4_alike_0 14 rfl rfl)
theorem dX4_alike_15 : decode cX4_alike 15 = .ok (.iadd, 1) := dk_96 (dk_at dksX4_alike_0 15 rfl rfl)
theorem dX4_alike_16 : decode cX4_alike 16 = .ok (.aload_n 0, 1) := dk_42 (dk_at dksX4_alike_0 16 rfl rfl)
theorem dX4_alike_17 : decode cX4_alike 17 = .ok (.getfield 253, 3) := dk_180 0 253 (dk_at dksX4_alike_0 17 rfl rfl)
theorem dX4_alike_20 : decode cX4_alike 20 = .ok (.if_icmp .ge 28, 3) := dk_162 0 28 (dk_at dksX4_alike_0 20 rfl rfl)
theorem dX4_alike_23 : decode cX4_alike 23 = .ok (.aload_n 0, 1) := dk_42 (dk_at dksX4_alike_0 23 rfl rfl)
theorem dX4_alike_24 : decode cX4_alike 24 = .ok (.getfield 53, 3) := dk_180 0 53 (dk_at dksX4_alike_1 0 rfl rfl)
theorem dX4_alike_27 : decode cX4_alike 27 = .ok (.aload_n 0, 1) := dk_42 (dk_at dksX4_alike_1 3 rfl rfl)
theorem dX4_alike_28 : decode cX4_alike 28 = .ok (.getfield 259, 3) := dk_180 1 3 (dk_at dksX4_alike_1 4 rfl rfl)
theorem dX4_alike_31 : decode cX4_alike 31 = .ok (.iload_n 2, 1) := dk_28 (dk_at dksX4_alike_1 7 rfl rfl)
theorem dX4_alike_32 : decode cX4_alike 32 = .ok (.iadd, 1) := dk_96 (dk_at dksX4_alike_1 8 rfl rfl)
theorem dX4_alike_33 : decode cX4_alike 33 = .ok (.iaload, 1) := dk_46 (dk_at dksX4_alike_1 9 rfl rfl)
theorem dX4_alike_34 : decode cX4_alike 34 = .ok (.aload_n 1, 1) := dk_43 (dk_at dksX4_alike_1 10 rfl rfl)
theorem dX4_alike_35 : decode cX4_alike 35 = .ok (.iload_n 2, 1) := dk_28 (dk_at dksX4_alike_1 11 rfl rfl)
theorem dX4_alike_36 : decode cX4_alike 36 = .ok (.invokevirtual 212, 3) := dk_182 0 212 (dk_at dksX4_alike_1 12 rfl rfl)
theorem dX4_alike_39 : decode cX4_alike 39 = .ok (.if_icmp .ne 9, 3) := dk_160 0 9 (dk_at dksX4_alike_1 15 rfl rfl)
theorem dX4_alike_42 : decode cX4_alike 42 = .ok (.iinc 2 1, 3) := dk_132 2 1 (dk_at dksX4_alike_1 18 rfl rfl)
theorem dX4_alike_45 : decode cX4_alike 45 = .ok (.goto (-43), 3) := dk_167 255 213 (dk_at dksX4_alike_1 21 rfl rfl)
theorem dX4_alike_48 : decode cX4_alike 48 = .ok (.iload_n 2, 1) := dk_28 (dk_at dksX4_alike_2 0 rfl rfl)
theorem dX4_alike_49 : decode cX4_alike 49 = .ok (.ireturn, 1) := dk_172 (dk_at dksX4_alike_2 1 rfl rfl)
abbrev cX4_number : ByteArray := prog_21_method_80_code
def yX4_number : MethodName := ⟨RX4, "number", "()I"⟩
def dkwX4_number_1 : List UInt8 := [42, 182, 1, 14, 96, 167, 0, 4, 27, 172]
abbrev dktX4_number_1 : List UInt8 := dkwX4_number_1 ++ []
def dkwX4_number_0 : List UInt8 := [42, 182, 1, 14, 60, 27, 158, 0, 26, 42, 16, 48, 16, 57, 182, 1, 6, 153, 0, 15, 16, 10, 27, 104]
abbrev dktX4_number_0 : List UInt8 := dkwX4_number_0 ++ dktX4_number_1
theorem dksX4_number_0 : cX4_number.data.toList.drop 0 = dktX4_number_0 := by decide +kernel
theorem dksX4_number_1 : cX4_number.data.toList.drop 24 = dktX4_number_1 := dk_seg dksX4_number_0 24 rfl rfl
theorem dX4_number_0 : decode cX4_number 0 = .ok (.aload_n 0, 1) := dk_42 (dk_at dksX4_number_0 0 rfl rfl)
theorem dX4_number_1 : decode cX4_number 1 = .ok (.invokevirtual 270, 3) := dk_182 1 14 (dk_at dksX4_number_0 1 rfl rfl)
theorem dX4_number_4 : decode cX4_number 4 = .ok (.istore_n 1, 1) := dk_60 (dk_at dksX4_number_0 4 rfl rfl)
theorem dX4_number_5 : decode cX4_number 5 = .ok (.iload_n 1, 1) := dk_27 (dk_at dksX4_number_0 5 rfl rfl)
theorem dX4_number_6 : decode cX4_number 6 = .ok (.ifCond .le 26, 3) := dk_158 0 26 (dk_at dksX4_number_0 6 rfl rfl)
theorem dX4_number_9 : decode cX4_number 9 = .ok (.aload_n 0, 1) := dk_42 (dk_at dksX4_number_0 9 rfl rfl)
theorem dX4_number_10 : decode cX4_number 10 = .ok (.bipush 48, 2) := dk_16 48 (dk_at dksX4_number_0 10 rfl rfl)
theorem dX4_number_12 : decode cX4_number 12 = .ok (.bipush 57, 2) := dk_16 57 (dk_at dksX4_number_0 12 rfl rfl)
theorem dX4_number_14 : decode cX4_number 14 = .ok (.invokevirtual 262, 3) := dk_182 1 6 (dk_at dksX4_number_0 14 rfl rfl)
theorem dX4_number_17 : decode cX4_number 17 = .ok (.ifCond .eq 15, 3) := dk_153 0 15 (dk_at dksX4_number_0 17 rfl rfl)
theorem dX4_number_20 : decode cX4_number 20 = .ok (.bipush 10, 2) := dk_16 10 (dk_at dksX4_number_0 20 rfl rfl)
theorem dX4_number_22 : decode cX4_number 22 = .ok (.iload_n 1, 1) := dk_27 (dk_at dksX4_number_0 22 rfl rfl)
theorem dX4_number_23 : decode cX4_number 23 = .ok (.imul, 1) := dk_104 (dk_at dksX4_number_0 23 rfl rfl)
theorem dX4_number_24 : decode cX4_number 24 = .ok (.aload_n 0, 1) := dk_42 (dk_at dksX4_number_1 0 rfl rfl)
theorem dX4_number_25 : decode cX4_number 25 = .ok (.invokevirtual 270, 3) := dk_182 1 14 (dk_at dksX4_number_1 1 rfl rfl)
theorem dX4_number_28 : decode cX4_number 28 = .ok (.iadd, 1) := dk_96 (dk_at dksX4_number_1 4 rfl rfl)
theorem dX4_number_29 : decode cX4_number 29 = .ok (.goto 4, 3) := dk_167 0 4 (dk_at dksX4_number_1 5 rfl rfl)
theorem dX4_number_32 : decode cX4_number 32 = .ok (.iload_n 1, 1) := dk_27 (dk_at dksX4_number_1 8 rfl rfl)
theorem dX4_number_33 : decode cX4_number 33 = .ok (.ireturn, 1) := dk_172 (dk_at dksX4_number_1 9 rfl rfl)
abbrev cX4_digit : ByteArray := prog_21_method_79_code
def yX4_digit : MethodName := ⟨RX4, "digit", "()I"⟩
def dkwX4_digit_0 : List UInt8 := [42, 16, 48, 16, 57, 182, 1, 10, 172]
abbrev dktX4_digit_0 : List UInt8 := dkwX4_digit_0 ++ []
theorem dksX4_digit_0 : cX4_digit.data.toList.drop 0 = dktX4_digit_0 := by decide +kernel
theorem dX4_digit_0 : decode cX4_digit 0 = .ok (.aload_n 0, 1) := dk_42 (dk_at dksX4_digit_0 0 rfl rfl)
theorem dX4_digit_1 : decode cX4_digit 1 = .ok (.bipush 48, 2) := dk_16 48 (dk_at dksX4_digit_0 1 rfl rfl)
theorem dX4_digit_3 : decode cX4_digit 3 = .ok (.bipush 57, 2) := dk_16 57 (dk_at dksX4_digit_0 3 rfl rfl)
theorem dX4_digit_5 : decode cX4_digit 5 = .ok (.invokevirtual 266, 3) := dk_182 1 10 (dk_at dksX4_digit_0 5 rfl rfl)
theorem dX4_digit_8 : decode cX4_digit 8 = .ok (.ireturn, 1) := dk_172 (dk_at dksX4_digit_0 8 rfl rfl)
abbrev cX4_sign : ByteArray := prog_21_method_78_code
def yX4_sign : MethodName := ⟨RX4, "sign", "(CC)I"⟩
def dkwX4_sign_2 : List UInt8 := [100, 46, 27, 100, 172]
abbrev dktX4_sign_2 : List UInt8 := dkwX4_sign_2 ++ []
def dkwX4_sign_1 : List UInt8 := [153, 0, 5, 3, 172, 42, 89, 180, 1, 3, 4, 96, 181, 1, 3, 42, 180, 0, 53, 42, 180, 1, 3, 4]
abbrev dktX4_sign_1 : List UInt8 := dkwX4_sign_1 ++ dktX4_sign_2
def dkwX4_sign_0 : List UInt8 := [42, 42, 27, 28, 182, 1, 6, 154, 0, 7, 4, 167, 0, 4, 3, 181, 0, 255, 42, 180, 0, 255]
abbrev dktX4_sign_0 : List UInt8 := dkwX4_sign_0 ++ dktX4_sign_1
theorem dksX4_sign_0 : cX4_sign.data.toList.drop 0 = dktX4_sign_0 := by decide +kernel
theorem dksX4_sign_1 : cX4_sign.data.toList.drop 22 = dktX4_sign_1 := dk_seg dksX4_sign_0 22 rfl rfl
theorem dksX4_sign_2 : cX4_sign.data.toList.drop 46 = dktX4_sign_2 := dk_seg dksX4_sign_1 24 rfl rfl
theorem dX4_sign_0 : decode cX4_sign 0 = .ok (.aload_n 0, 1) := dk_42 (dk_at dksX4_sign_0 0 rfl rfl)
theorem dX4_sign_1 : decode cX4_sign 1 = .ok (.aload_n 0, 1) := dk_42 (dk_at dksX4_sign_0 1 rfl rfl)
theorem dX4_sign_2 : decode cX4_sign 2 = .ok (.iload_n 1, 1) := dk_27 (dk_at dksX4_sign_0 2 rfl rfl)
theorem dX4_sign_3 : decode cX4_sign 3 = .ok (.iload_n 2, 1) := dk_28 (dk_at dksX4_sign_0 3 rfl rfl)
theorem dX4_sign_4 : decode cX4_sign 4 = .ok (.invokevirtual 262, 3) := dk_182 1 6 (dk_at dksX4_sign_0 4 rfl rfl)
theorem dX4_sign_7 : decode cX4_sign 7 = .ok (.ifCond .ne 7, 3) := dk_154 0 7 (dk_at dksX4_sign_0 7 rfl rfl)
theorem dX4_sign_10 : decode cX4_sign 10 = .ok (.iconst 1, 1) := dk_4 (dk_at dksX4_sign_0 10 rfl rfl)
theorem dX4_sign_11 : decode cX4_sign 11 = .ok (.goto 4, 3) := dk_167 0 4 (dk_at dksX4_sign_0 11 rfl rfl)
theorem dX4_sign_14 : decode cX4_sign 14 = .ok (.iconst 0, 1) := dk_3 (dk_at dksX4_sign_0 14 rfl rfl)
theorem dX4_sign_15 : decode cX4_sign 15 = .ok (.putfield 255, 3) := dk_181 0 255 (dk_at dksX4_sign_0 15 rfl rfl)
theorem dX4_sign_18 : decode cX4_sign 18 = .ok (.aload_n 0, 1) := dk_42 (dk_at dksX4_sign_0 18 rfl rfl)
theorem dX4_sign_19 : decode cX4_sign 19 = .ok (.getfield 255, 3) := dk_180 0 255 (dk_at dksX4_sign_0 19 rfl rfl)
theorem dX4_sign_22 : decode cX4_sign 22 = .ok (.ifCond .eq 5, 3) := dk_153 0 5 (dk_at dksX4_sign_1 0 rfl rfl)
theorem dX4_sign_25 : decode cX4_sign 25 = .ok (.iconst 0, 1) := dk_3 (dk_at dksX4_sign_1 3 rfl rfl)
theorem dX4_sign_26 : decode cX4_sign 26 = .ok (.ireturn, 1) := dk_172 (dk_at dksX4_sign_1 4 rfl rfl)
theorem dX4_sign_27 : decode cX4_sign 27 = .ok (.aload_n 0, 1) := dk_42 (dk_at dksX4_sign_1 5 rfl rfl)
theorem dX4_sign_28 : decode cX4_sign 28 = .ok (.dup, 1) := dk_89 (dk_at dksX4_sign_1 6 rfl rfl)
theorem dX4_sign_29 : decode cX4_sign 29 = .ok (.getfield 259, 3) := dk_180 1 3 (dk_at dksX4_sign_1 7 rfl rfl)
theorem dX4_sign_32 : decode cX4_sign 32 = .ok (.iconst 1, 1) := dk_4 (dk_at dksX4_sign_1 10 rfl rfl)
theorem dX4_sign_33 : decode cX4_sign 33 = .ok (.iadd, 1) := dk_96 (dk_at dksX4_sign_1 11 rfl rfl)
theorem dX4_sign_34 : decode cX4_sign 34 = .ok (.putfield 259, 3) := dk_181 1 3 (dk_at dksX4_sign_1 12 rfl rfl)
theorem dX4_sign_37 : decode cX4_sign 37 = .ok (.aload_n 0, 1) := dk_42 (dk_at dksX4_sign_1 15 rfl rfl)
theorem dX4_sign_38 : decode cX4_sign 38 = .ok (.getfield 53, 3) := dk_180 0 53 (dk_at dksX4_sign_1 16 rfl rfl)
theorem dX4_sign_41 : decode cX4_sign 41 = .ok (.aload_n 0, 1) := dk_42 (dk_at dksX4_sign_1 19 rfl rfl)
theorem dX4_sign_42 : decode cX4_sign 42 = .ok (.getfield 259, 3) := dk_180 1 3 (dk_at dksX4_sign_1 20 rfl rfl)
theorem dX4_sign_45 : decode cX4_sign 45 = .ok (.iconst 1, 1) := dk_4 (dk_at dksX4_sign_1 23 rfl rfl)
theorem dX4_sign_46 : decode cX4_sign 46 = .ok (.isub, 1) := dk_100 (dk_at dksX4_sign_2 0 rfl rfl)
theorem dX4_sign_47 : decode cX4_sign 47 = .ok (.iaload, 1) := dk_46 (dk_at dksX4_sign_2 1 rfl rfl)
theorem dX4_sign_48 : decode cX4_sign 48 = .ok (.iload_n 1, 1) := dk_27 (dk_at dksX4_sign_2 2 rfl rfl)
theorem dX4_sign_49 : decode cX4_sign 49 = .ok (.isub, 1) := dk_100 (dk_at dksX4_sign_2 3 rfl rfl)
theorem dX4_sign_50 : decode cX4_sign 50 = .ok (.ireturn, 1) := dk_172 (dk_at dksX4_sign_2 4 rfl rfl)
abbrev cX4_isHere : ByteArray := prog_21_method_77_code
def yX4_isHere : MethodName := ⟨RX4, "isHere", "(CC)Z"⟩
def dkwX4_isHere_1 : List UInt8 := [180, 1, 3, 46, 27, 28, 184, 0, 87, 153, 0, 7, 4, 167, 0, 4, 3, 172]
abbrev dktX4_isHere_1 : List UInt8 := dkwX4_isHere_1 ++ []
def dkwX4_isHere_0 : List UInt8 := [42, 180, 0, 255, 154, 0, 35, 42, 180, 1, 3, 42, 180, 0, 253, 162, 0, 24, 42, 180, 0, 53, 42]
abbrev dktX4_isHere_0 : List UInt8 := dkwX4_isHere_0 ++ dktX4_isHere_1
theorem dksX4_isHere_0 : cX4_isHere.data.toList.drop 0 = dktX4_isHere_0 := by decide +kernel
theorem dksX4_isHere_1 : cX4_isHere.data.toList.drop 23 = dktX4_isHere_1 := dk_seg dksX4_isHere_0 23 rfl rfl
theorem dX4_isHere_0 : decode cX4_isHere 0 = .ok (.aload_n 0, 1) := dk_42 (dk_at dksX4_isHere_0 0 rfl rfl)
theorem dX4_isHere_1 : decode cX4_isHere 1 = .ok (.getfield 255, 3) := dk_180 0 255 (dk_at dksX4_isHere_0 1 rfl rfl)
theorem dX4_isHere_4 : decode cX4_isHere 4 = .ok (.ifCond .ne 35, 3) := dk_154 0 35 (dk_at dksX4_isHere_0 4 rfl rfl)
theorem dX4_isHere_7 : decode cX4_isHere 7 = .ok (.aload_n 0, 1) := dk_42 (dk_at dksX4_isHere_0 7 rfl rfl)
theorem dX4_isHere_8 : decode cX4_isHere 8 = .ok (.getfield 259, 3) := dk_180 1 3 (dk_at dksX4_isHere_0 8 rfl rfl)
theorem dX4_isHere_11 : decode cX4_isHere 11 = .ok (.aload_n 0, 1) := dk_42 (dk_at dksX4_isHere_0 11 rfl rfl)
theorem dX4_isHere_12 : decode cX4_isHere 12 = .ok (.getfield 253, 3) := dk_180 0 253 (dk_at dksX4_isHere_0 12 rfl rfl)
theorem dX4_isHere_15 : decode cX4_isHere 15 = .ok (.if_icmp .ge 24, 3) := dk_162 0 24 (dk_at dksX4_isHere_0 15 rfl rfl)
theorem dX4_isHere_18 : decode cX4_isHere 18 = .ok (.aload_n 0, 1) := dk_42 (dk_at dksX4_isHere_0 18 rfl rfl)
theorem dX4_isHere_19 : decode cX4_isHere 19 = .ok (.getfield 53, 3) := dk_180 0 53 (dk_at dksX4_isHere_0 19 rfl rfl)
theorem dX4_isHere_22 : decode cX4_isHere 22 = .ok (.aload_n 0, 1) := dk_42 (dk_at dksX4_isHere_0 22 rfl rfl)
theorem dX4_isHere_23 : decode cX4_isHere 23 = .ok (.getfield 259, 3) := dk_180 1 3 (dk_at dksX4_isHere_1 0 rfl rfl)
theorem dX4_isHere_26 : decode cX4_isHere 26 = .ok (.iaload, 1) := dk_46 (dk_at dksX4_isHere_1 3 rfl rfl)
theorem dX4_isHere_27 : decode cX4_isHere 27 = .ok (.iload_n 1, 1) := dk_27 (dk_at dksX4_isHere_1 4 rfl rfl)
theorem dX4_isHere_28 : decode cX4_isHere 28 = .ok (.iload_n 2, 1) := dk_28 (dk_at dksX4_isHere_1 5 rfl rfl)
theorem dX4_isHere_29 : decode cX4_isHere 29 = .ok (.invokestatic 87, 3) := dk_184 0 87 (dk_at dksX4_isHere_1 6 rfl rfl)
theorem dX4_isHere_32 : decode cX4_isHere 32 = .ok (.ifCond .eq 7, 3) := dk_153 0 7 (dk_at dksX4_isHere_1 9 rfl rfl)
theorem dX4_isHere_35 : decode cX4_isHere 35 = .ok (.iconst 1, 1) := dk_4 (dk_at dksX4_isHere_1 12 rfl rfl)
theorem dX4_isHere_36 : decode cX4_isHere 36 = .ok (.goto 4, 3) := dk_167 0 4 (dk_at dksX4_isHere_1 13 rfl rfl)
theorem dX4_isHere_39 : decode cX4_isHere 39 = .ok (.iconst 0, 1) := dk_3 (dk_at dksX4_isHere_1 16 rfl rfl)
theorem dX4_isHere_40 : decode cX4_isHere 40 = .ok (.ireturn, 1) := dk_172 (dk_at dksX4_isHere_1 17 rfl rfl)
abbrev cX4_does : ByteArray := prog_21_method_83_code
def yX4_does : MethodName := ⟨RX4, "does", "(I)V"⟩
def dkwX4_does_6 : List UInt8 := [54, 4, 167, 0, 21, 42, 28, 3, 182, 0, 177, 54, 4, 167, 0, 10, 42, 4, 182, 0, 146, 54, 4, 177]
abbrev dktX4_does_6 : List UInt8 := dkwX4_does_6 ++ []
def dkwX4_does_5 : List UInt8 := [182, 0, 194, 54, 4, 167, 0, 41, 42, 182, 0, 203, 54, 4, 167, 0, 32, 42, 28, 4, 182, 0, 177]
abbrev dktX4_does_5 : List UInt8 := dkwX4_does_5 ++ dktX4_does_6
def dkwX4_does_4 : List UInt8 := [182, 0, 162, 54, 4, 167, 0, 64, 42, 28, 29, 116, 182, 0, 162, 54, 4, 167, 0, 52, 42, 28, 29]
abbrev dktX4_does_4 : List UInt8 := dkwX4_does_4 ++ dktX4_does_5
def dkwX4_does_3 : List UInt8 := [42, 28, 29, 182, 0, 152, 54, 4, 167, 0, 85, 42, 28, 182, 0, 155, 54, 4, 167, 0, 75, 42, 28, 29]
abbrev dktX4_does_3 : List UInt8 := dkwX4_does_3 ++ dktX4_does_4
def dkwX4_does_2 : List UInt8 := [170, 0, 0, 0, 0, 132, 0, 0, 0, 0, 0, 0, 0, 7, 0, 0, 0, 46, 0, 0, 0, 57, 0, 0, 0, 67, 0, 0, 0, 78, 0, 0, 0, 90, 0, 0, 0, 101, 0, 0, 0, 110, 0, 0, 0, 121]
abbrev dktX4_does_2 : List UInt8 := dkwX4_does_2 ++ dktX4_does_3
def dkwX4_does_1 : List UInt8 := [180, 0, 63, 6, 27, 104, 46]
abbrev dktX4_does_1 : List UInt8 := dkwX4_does_1 ++ dktX4_does_2
def dkwX4_does_0 : List UInt8 := [42, 180, 0, 63, 6, 27, 104, 4, 96, 46, 61, 42, 180, 0, 63, 6, 27, 104, 5, 96, 46, 62, 42]
abbrev dktX4_does_0 : List UInt8 := dkwX4_does_0 ++ dktX4_does_1
theorem dksX4_does_0 : cX4_does.data.toList.drop 0 = dktX4_does_0 := by decide +kernel
theorem dksX4_does_1 : cX4_does.data.toList.drop 23 = dktX4_does_1 := dk_seg dksX4_does_0 23 rfl rfl
theorem dksX4_does_2 : cX4_does.data.toList.drop 30 = dktX4_does_2 := dk_seg dksX4_does_1 7 rfl rfl
theorem dksX4_does_3 : cX4_does.data.toList.drop 76 = dktX4_does_3 := dk_seg dksX4_does_2 46 rfl rfl
theorem dksX4_does_4 : cX4_does.data.toList.drop 100 = dktX4_does_4 := dk_seg dksX4_does_3 24 rfl rfl
theorem dksX4_does_5 : cX4_does.data.toList.drop 123 = dktX4_does_5 := dk_seg dksX4_does_4 23 rfl rfl
theorem dksX4_does_6 : cX4_does.data.toList.drop 146 = dktX4_does_6 := dk_seg dksX4_does_5 23 rfl rfl
theorem dX4_does_0 : decode cX4_does 0 = .ok (.aload_n 0, 1) := dk_42 (dk_at dksX4_does_0 0 rfl rfl)
theorem dX4_does_1 : decode cX4_does 1 = .ok (.getfield 63, 3) := dk_180 0 63 (dk_at dksX4_does_0 1 rfl rfl)
theorem dX4_does_4 : decode cX4_does 4 = .ok (.iconst 3, 1) := dk_6 (dk_at dksX4_does_0 4 rfl rfl)
theorem dX4_does_5 : decode cX4_does 5 = .ok (.iload_n 1, 1) := dk_27 (dk_at dksX4_does_0 5 rfl rfl)
theorem dX4_does_6 : decode cX4_does 6 = .ok (.imul, 1) := dk_104 (dk_at dksX4_does_0 6 rfl rfl)
theorem dX4_does_7 : decode cX4_does 7 = .ok (.iconst 1, 1) := dk_4 (dk_at dksX4_does_0 7 rfl rfl)
theorem dX4_does_8 : decode cX4_does 8 = .ok (.iadd, 1) := dk_96 (dk_at dksX4_does_0 8 rfl rfl)
theorem dX4_does_9 : decode cX4_does 9 = .ok (.iaload, 1) := dk_46 (dk_at dksX4_does_0 9 rfl rfl)
theorem dX4_does_10 : decode cX4_does 10 = .ok (.istore_n 2, 1) := dk_61 (dk_at dksX4_does_0 10 rfl rfl)
theorem dX4_does_11 : decode cX4_does 11 = .ok (.aload_n 0, 1) := dk_42 (dk_at dksX4_does_0 11 rfl rfl)
theorem dX4_does_12 : decode cX4_does 12 = .ok (.getfield 63, 3) := dk_180 0 63 (dk_at dksX4_does_0 12 rfl rfl)
theorem dX4_does_15 : decode cX4_does 15 = .ok (.iconst 3, 1) := dk_6 (dk_at dksX4_does_0 15 rfl rfl)
theorem dX4_does_16 : decode cX4_does 16 = .ok (.iload_n 1, 1) := dk_27 (dk_at dksX4_does_0 16 rfl rfl)
theorem dX4_does_17 : decode cX4_does 17 = .ok (.imul, 1) := dk_104 (dk_at dksX4_does_0 17 rfl rfl)
theorem dX4_does_18 : decode cX4_does 18 = .ok (.iconst 2, 1) := dk_5 (dk_at dksX4_does_0 18 rfl rfl)
theorem dX4_does_19 : decode cX4_does 19 = .ok (.iadd, 1) := dk_96 (dk_at dksX4_does_0 19 rfl rfl)
theorem dX4_does_20 : decode cX4_does 20 = .ok (.iaload, 1) := dk_46 (dk_at dksX4_does_0 20 rfl rfl)
theorem dX4_does_21 : decode cX4_does 21 = .ok (.istore_n 3, 1) := dk_62 (dk_at dksX4_does_0 21 rfl rfl)
theorem dX4_does_22 : decode cX4_does 22 = .ok (.aload_n 0, 1) := dk_42 (dk_at dksX4_does_0 22 rfl rfl)
theorem dX4_does_23 : decode cX4_does 23 = .ok (.getfield 63, 3) := dk_180 0 63 (dk_at dksX4_does_1 0 rfl rfl)
theorem dX4_does_26 : decode cX4_does 26 = .ok (.iconst 3, 1) := dk_6 (dk_at dksX4_does_1 3 rfl rfl)
theorem dX4_does_27 : decode cX4_does 27 = .ok (.iload_n 1, 1) := dk_27 (dk_at dksX4_does_1 4 rfl rfl)
theorem dX4_does_28 : decode cX4_does 28 = .ok (.imul, 1) := dk_104 (dk_at dksX4_does_1 5 rfl rfl)
theorem dX4_does_29 : decode cX4_does 29 = .ok (.iaload, 1) := dk_46 (dk_at dksX4_does_1 6 rfl rfl)
theorem dX4_does_30 : decode cX4_does 30 = .ok (.tableswitch 132 0 7 #[46, 57, 67, 78, 90, 101, 110, 121], 46) := by decide +kernel
theorem dX4_does_76 : decode cX4_does 76 = .ok (.aload_n 0, 1) := dk_42 (dk_at dksX4_does_3 0 rfl rfl)
theorem dX4_does_77 : decode cX4_does 77 = .ok (.iload_n 2, 1) := dk_28 (dk_at dksX4_does_3 1 rfl rfl)
theorem dX4_does_78 : decode cX4_does 78 = .ok (.iload_n 3, 1) := dk_29 (dk_at dksX4_does_3 2 rfl rfl)
theorem dX4_does_79 : decode cX4_does 79 = .ok (.invokevirtual 152, 3) := dk_182 0 152 (dk_at dksX4_does_3 3 rfl rfl)
theorem dX4_does_82 : decode cX4_does 82 = .ok (.istore 4, 2) := dk_54 4 (dk_at dksX4_does_3 6 rfl rfl)
theorem dX4_does_84 : decode cX4_does 84 = .ok (.goto 85, 3) := dk_167 0 85 (dk_at dksX4_does_3 8 rfl rfl)
theorem dX4_does_87 : decode cX4_does 87 = .ok (.aload_n 0, 1) := dk_42 (dk_at dksX4_does_3 11 rfl rfl)
theorem dX4_does_88 : decode cX4_does 88 = .ok (.iload_n 2, 1) := dk_28 (dk_at dksX4_does_3 12 rfl rfl)
theorem dX4_does_89 : decode cX4_does 89 = .ok (.invokevirtual 155, 3) := dk_182 0 155 (dk_at dksX4_does_3 13 rfl rfl)
theorem dX4_does_92 : decode cX4_does 92 = .ok (.istore 4, 2) := dk_54 4 (dk_at dksX4_does_3 16 rfl rfl)
theorem dX4_does_94 : decode cX4_does 94 = .ok (.goto 75, 3) := dk_167 0 75 (dk_at dksX4_does_3 18 rfl rfl)
theorem dX4_does_97 : decode cX4_does 97 = .ok (.aload_n 0, 1) := dk_42 (dk_at dksX4_does_3 21 rfl rfl)
theorem dX4_does_98 : decode cX4_does 98 = .ok (.iload_n 2, 1) := dk_28 (dk_at dksX4_does_3 22 rfl rfl)
theorem dX4_does_99 : decode cX4_does 99 = .ok (.iload_n 3, 1) := dk_29 (dk_at dksX4_does_3 23 rfl rfl)
theorem dX4_does_100 : decode cX4_does 100 = .ok (.invokevirtual 162, 3) := dk_182 0 162 (dk_at dksX4_does_4 0 rfl rfl)
theorem dX4_does_103 : decode cX4_does 103 = .ok (.istore 4, 2) := dk_54 4 (dk_at dksX4_does_4 3 rfl rfl)
theorem dX4_does_105 : decode cX4_does 105 = .ok (.goto 64, 3) := dk_167 0 64 (dk_at dksX4_does_4 5 rfl rfl)
theorem dX4_does_108 : decode cX4_does 108 = .ok (.aload_n 0, 1) := dk_42 (dk_at dksX4_does_4 8 rfl rfl)
theorem dX4_does_109 : decode cX4_does 109 = .ok (.iload_n 2, 1) := dk_28 (dk_at dksX4_does_4 9 rfl rfl)
theorem dX4_does_110 : decode cX4_does 110 = .ok (.iload_n 3, 1) := dk_29 (dk_at dksX4_does_4 10 rfl rfl)
theorem dX4_does_111 : decode cX4_does 111 = .ok (.ineg, 1) := dk_116 (dk_at dksX4_does_4 11 rfl rfl)
theorem dX4_does_112 : decode cX4_does 112 = .ok (.invokevirtual 162, 3) := dk_182 0 162 (dk_at dksX4_does_4 12 rfl rfl)
theorem dX4_does_115 : decode cX4_does 115 = .ok (.istore 4, 2) := dk_54 4 (dk_at dksX4_does_4 15 rfl rfl)
theorem dX4_does_117 : decode cX4_does 117 = .ok (.goto 52, 3) := dk_167 0 52 (dk_at dksX4_does_4 17 rfl rfl)
theorem dX4_does_120 : decode cX4_does 120 = .ok (.aload_n 0, 1) := dk_42 (dk_at dksX4_does_4 20 rfl rfl)
theorem dX4_does_121 : decode cX4_does 121 = .ok (.iload_n 2, 1) := dk_28 (dk_at dksX4_does_4 21 rfl rfl)
theorem dX4_does_122 : decode cX4_does 122 = .ok (.iload_n 3, 1) := dk_29 (dk_at dksX4_does_4 22 rfl rfl)
theorem dX4_does_123 : decode cX4_does 123 = .ok (.invokevirtual 194, 3) := dk_182 0 194 (dk_at dksX4_does_5 0 rfl rfl)
theorem dX4_does_126 : decode cX4_does 126 = .ok (.istore 4, 2) := dk_54 4 (dk_at dksX4_does_5 3 rfl rfl)
theorem dX4_does_128 : decode cX4_does 128 = .ok (.goto 41, 3) := dk_167 0 41 (dk_at dksX4_does_5 5 rfl rfl)
theorem dX4_does_131 : decode cX4_does 131 = .ok (.aload_n 0, 1) := dk_42 (dk_at dksX4_does_5 8 rfl rfl)
theorem dX4_does_132 : decode cX4_does 132 = .ok (.invokevirtual 203, 3) := dk_182 0 203 (dk_at dksX4_does_5 9 rfl rfl)
theorem dX4_does_135 : decode cX4_does 135 = .ok (.istore 4, 2) := dk_54 4 (dk_at dksX4_does_5 12 rfl rfl)
theorem dX4_does_137 : decode cX4_does 137 = .ok (.goto 32, 3) := dk_167 0 32 (dk_at dksX4_does_5 14 rfl rfl)
theorem dX4_does_140 : decode cX4_does 140 = .ok (.aload_n 0, 1) := dk_42 (dk_at dksX4_does_5 17 rfl rfl)
theorem dX4_does_141 : decode cX4_does 141 = .ok (.iload_n 2, 1) := dk_28 (dk_at dksX4_does_5 18 rfl rfl)
theorem dX4_does_142 : decode cX4_does 142 = .ok (.iconst 1, 1) := dk_4 (dk_at dksX4_does_5 19 rfl rfl)
theorem dX4_does_143 : decode cX4_does 143 = .ok (.invokevirtual 177, 3) := dk_182 0 177 (dk_at dksX4_does_5 20 rfl rfl)
theorem dX4_does_146 : decode cX4_does 146 = .ok (.istore 4, 2) := dk_54 4 (dk_at dksX4_does_6 0 rfl rfl)
theorem dX4_does_148 : decode cX4_does 148 = .ok (.goto 21, 3) := dk_167 0 21 (dk_at dksX4_does_6 2 rfl rfl)
theorem dX4_does_151 : decode cX4_does 151 = .ok (.aload_n 0, 1) := dk_42 (dk_at dksX4_does_6 5 rfl rfl)
theorem dX4_does_152 : decode cX4_does 152 = .ok (.iload_n 2, 1) := dk_28 (dk_at dksX4_does_6 6 rfl rfl)
theorem dX4_does_153 : decode cX4_does 153 = .ok (.iconst 0, 1) := dk_3 (dk_at dksX4_does_6 7 rfl rfl)
theorem dX4_does_154 : decode cX4_does 154 = .ok (.invokevirtual 177, 3) := dk_182 0 177 (dk_at dksX4_does_6 8 rfl rfl)
theorem dX4_does_157 : decode cX4_does 157 = .ok (.istore 4, 2) := dk_54 4 (dk_at dksX4_does_6 11 rfl rfl)
theorem dX4_does_159 : decode cX4_does 159 = .ok (.goto 10, 3) := dk_167 0 10 (dk_at dksX4_does_6 13 rfl rfl)
theorem dX4_does_162 : decode cX4_does 162 = .ok (.aload_n 0, 1) := dk_42 (dk_at dksX4_does_6 16 rfl rfl)
theorem dX4_does_163 : decode cX4_does 163 = .ok (.iconst 1, 1) := dk_4 (dk_at dksX4_does_6 17 rfl rfl)
theorem dX4_does_164 : decode cX4_does 164 = .ok (.invokevirtual 146, 3) := dk_182 0 146 (dk_at dksX4_does_6 18 rfl rfl)
theorem dX4_does_167 : decode cX4_does 167 = .ok (.istore 4, 2) := dk_54 4 (dk_at dksX4_does_6 21 rfl rfl)
theorem dX4_does_169 : decode cX4_does 169 = .ok (.return_, 1) := dk_177 (dk_at dksX4_does_6 23 rfl rfl)
abbrev cX4_errorPosition : ByteArray := prog_21_method_85_code
def yX4_errorPosition : MethodName := ⟨RX4, "errorPosition", "()I"⟩
def dkwX4_errorPosition_1 : List UInt8 := [167, 0, 7, 42, 180, 0, 56, 172]
abbrev dktX4_errorPosition_1 : List UInt8 := dkwX4_errorPosition_1 ++ []
def dkwX4_errorPosition_0 : List UInt8 := [42, 42, 180, 0, 56, 156, 0, 7, 4, 167, 0, 4, 3, 181, 0, 69, 42, 180, 0, 69, 158, 0, 7, 3]
abbrev dktX4_errorPosition_0 : List UInt8 := dkwX4_errorPosition_0 ++ dktX4_errorPosition_1
theorem dksX4_errorPosition_0 : cX4_errorPosition.data.toList.drop 0 = dktX4_errorPosition_0 := by decide +kernel
theorem dksX4_errorPosition_1 : cX4_errorPosition.data.toList.drop 24 = dktX4_errorPosition_1 := dk_seg dksX4_errorPosition_0 24 rfl rfl
theorem dX4_errorPosition_0 : decode cX4_errorPosition 0 = .ok (.aload_n 0, 1) := dk_42 (dk_at dksX4_errorPosition_0 0 rfl rfl)
theorem dX4_errorPosition_1 : decode cX4_errorPosition 1 = .ok (.aload_n 0, 1) := dk_42 (dk_at dksX4_errorPosition_0 1 rfl rfl)
theorem dX4_errorPosition_2 : decode cX4_errorPosition 2 = .ok (.getfield 56, 3) := dk_180 0 56 (dk_at dksX4_errorPosition_0 2 rfl rfl)
theorem dX4_errorPosition_5 : decode cX4_errorPosition 5 = .ok (.ifCond .ge 7, 3) := dk_156 0 7 (dk_at dksX4_errorPosition_0 5 rfl rfl)
theorem dX4_errorPosition_8 : decode cX4_errorPosition 8 = .ok (.iconst 1, 1) := dk_4 (dk_at dksX4_errorPosition_0 8 rfl rfl)
theorem dX4_errorPosition_9 : decode cX4_errorPosition 9 = .ok (.goto 4, 3) := dk_167 0 4 (dk_at dksX4_errorPosition_0 9 rfl rfl)
theorem dX4_errorPosition_12 : decode cX4_errorPosition 12 = .ok (.iconst 0, 1) := dk_3 (dk_at dksX4_errorPosition_0 12 rfl rfl)
theorem dX4_errorPosition_13 : decode cX4_errorPosition 13 = .ok (.putfield 69, 3) := dk_181 0 69 (dk_at dksX4_errorPosition_0 13 rfl rfl)
theorem dX4_errorPosition_16 : decode cX4_errorPosition 16 = .ok (.aload_n 0, 1) := dk_42 (dk_at dksX4_errorPosition_0 16 rfl rfl)
theorem dX4_errorPosition_17 : decode cX4_errorPosition 17 = .ok (.getfield 69, 3) := dk_180 0 69 (dk_at dksX4_errorPosition_0 17 rfl rfl)
theorem dX4_errorPosition_20 : decode cX4_errorPosition 20 = .ok (.ifCond .le 7, 3) := dk_158 0 7 (dk_at dksX4_errorPosition_0 20 rfl rfl)
theorem dX4_errorPosition_23 : decode cX4_errorPosition 23 = .ok (.iconst 0, 1) := dk_3 (dk_at dksX4_errorPosition_0 23 rfl rfl)
theorem dX4_errorPosition_24 : decode cX4_errorPosition 24 = .ok (.goto 7, 3) := dk_167 0 7 (dk_at dksX4_errorPosition_1 0 rfl rfl)
theorem dX4_errorPosition_27 : decode cX4_errorPosition 27 = .ok (.aload_n 0, 1) := dk_42 (dk_at dksX4_errorPosition_1 3 rfl rfl)
theorem dX4_errorPosition_28 : decode cX4_errorPosition 28 = .ok (.getfield 56, 3) := dk_180 0 56 (dk_at dksX4_errorPosition_1 4 rfl rfl)
theorem dX4_errorPosition_31 : decode cX4_errorPosition 31 = .ok (.ireturn, 1) := dk_172 (dk_at dksX4_errorPosition_1 7 rfl rfl)
abbrev cX4_refusedItem : ByteArray := prog_21_method_86_code
def yX4_refusedItem : MethodName := ⟨RX4, "refusedItem", "()I"⟩
def dkwX4_refusedItem_1 : List UInt8 := [167, 0, 7, 42, 180, 0, 60, 172]
abbrev dktX4_refusedItem_1 : List UInt8 := dkwX4_refusedItem_1 ++ []
def dkwX4_refusedItem_0 : List UInt8 := [42, 42, 180, 0, 60, 156, 0, 7, 4, 167, 0, 4, 3, 181, 0, 69, 42, 180, 0, 69, 158, 0, 7, 3]
abbrev dktX4_refusedItem_0 : List UInt8 := dkwX4_refusedItem_0 ++ dktX4_refusedItem_1
theorem dksX4_refusedItem_0 : cX4_refusedItem.data.toList.drop 0 = dktX4_refusedItem_0 := by decide +kernel
theorem dksX4_refusedItem_1 : cX4_refusedItem.data.toList.drop 24 = dktX4_refusedItem_1 := dk_seg dksX4_refusedItem_0 24 rfl rfl
theorem dX4_refusedItem_0 : decode cX4_refusedItem 0 = .ok (.aload_n 0, 1) := dk_42 (dk_at dksX4_refusedItem_0 0 rfl rfl)
theorem dX4_refusedItem_1 : decode cX4_refusedItem 1 = .ok (.aload_n 0, 1) := dk_42 (dk_at dksX4_refusedItem_0 1 rfl rfl)
theorem dX4_refusedItem_2 : decode cX4_refusedItem 2 = .ok (.getfield 60, 3) := dk_180 0 60 (dk_at dksX4_refusedItem_0 2 rfl rfl)
theorem dX4_refusedItem_5 : decode cX4_refusedItem 5 = .ok (.ifCond .ge 7, 3) := dk_156 0 7 (dk_at dksX4_refusedItem_0 5 rfl rfl)
theorem dX4_refusedItem_8 : decode cX4_refusedItem 8 = .ok (.iconst 1, 1) := dk_4 (dk_at dksX4_refusedItem_0 8 rfl rfl)
theorem dX4_refusedItem_9 : decode cX4_refusedItem 9 = .ok (.goto 4, 3) := dk_167 0 4 (dk_at dksX4_refusedItem_0 9 rfl rfl)
theorem dX4_refusedItem_12 : decode cX4_refusedItem 12 = .ok (.iconst 0, 1) := dk_3 (dk_at dksX4_refusedItem_0 12 rfl rfl)
theorem dX4_refusedItem_13 : decode cX4_refusedItem 13 = .ok (.putfield 69, 3) := dk_181 0 69 (dk_at dksX4_refusedItem_0 13 rfl rfl)
theorem dX4_refusedItem_16 : decode cX4_refusedItem 16 = .ok (.aload_n 0, 1) := dk_42 (dk_at dksX4_refusedItem_0 16 rfl rfl)
theorem dX4_refusedItem_17 : decode cX4_refusedItem 17 = .ok (.getfield 69, 3) := dk_180 0 69 (dk_at dksX4_refusedItem_0 17 rfl rfl)
theorem dX4_refusedItem_20 : decode cX4_refusedItem 20 = .ok (.ifCond .le 7, 3) := dk_158 0 7 (dk_at dksX4_refusedItem_0 20 rfl rfl)
theorem dX4_refusedItem_23 : decode cX4_refusedItem 23 = .ok (.iconst 0, 1) := dk_3 (dk_at dksX4_refusedItem_0 23 rfl rfl)
theorem dX4_refusedItem_24 : decode cX4_refusedItem 24 = .ok (.goto 7, 3) := dk_167 0 7 (dk_at dksX4_refusedItem_1 0 rfl rfl)
theorem dX4_refusedItem_27 : decode cX4_refusedItem 27 = .ok (.aload_n 0, 1) := dk_42 (dk_at dksX4_refusedItem_1 3 rfl rfl)
theorem dX4_refusedItem_28 : decode cX4_refusedItem 28 = .ok (.getfield 60, 3) := dk_180 0 60 (dk_at dksX4_refusedItem_1 4 rfl rfl)
theorem dX4_refusedItem_31 : decode cX4_refusedItem 31 = .ok (.ireturn, 1) := dk_172 (dk_at dksX4_refusedItem_1 7 rfl rfl)
abbrev cX4_undo : ByteArray := prog_21_method_87_code
def yX4_undo : MethodName := ⟨RX4, "undo", "()I"⟩
def dkwX4_undo_2 : List UInt8 := [180, 0, 9, 3, 17, 0, 131, 184, 0, 72, 42, 180, 0, 78, 172]
abbrev dktX4_undo_2 : List UInt8 := dkwX4_undo_2 ++ []
def dkwX4_undo_1 : List UInt8 := [172, 42, 89, 180, 0, 78, 4, 100, 181, 0, 78, 42, 180, 0, 22, 17, 0, 131, 42, 180, 0, 78, 104, 42]
abbrev dktX4_undo_1 : List UInt8 := dkwX4_undo_1 ++ dktX4_undo_2
def dkwX4_undo_0 : List UInt8 := [42, 42, 180, 0, 78, 154, 0, 7, 4, 167, 0, 4, 3, 181, 0, 69, 42, 180, 0, 69, 158, 0, 5, 3]
abbrev dktX4_undo_0 : List UInt8 := dkwX4_undo_0 ++ dktX4_undo_1
theorem dksX4_undo_0 : cX4_undo.data.toList.drop 0 = dktX4_undo_0 := by decide +kernel
theorem dksX4_undo_1 : cX4_undo.data.toList.drop 24 = dktX4_undo_1 := dk_seg dksX4_undo_0 24 rfl rfl
theorem dksX4_undo_2 : cX4_undo.data.toList.drop 48 = dktX4_undo_2 := dk_seg dksX4_undo_1 24 rfl rfl
theorem dX4_undo_0 : decode cX4_undo 0 = .ok (.aload_n 0, 1) := dk_42 (dk_at dksX4_undo_0 0 rfl rfl)
theorem dX4_undo_1 : decode cX4_undo 1 = .ok (.aload_n 0, 1) := dk_42 (dk_at dksX4_undo_0 1 rfl rfl)
theorem dX4_undo_2 : decode cX4_undo 2 = .ok (.getfield 78, 3) := dk_180 0 78 (dk_at dksX4_undo_0 2 rfl rfl)
theorem dX4_undo_5 : decode cX4_undo 5 = .ok (.ifCond .ne 7, 3) := dk_154 0 7 (dk_at dksX4_undo_0 5 rfl rfl)
theorem dX4_undo_8 : decode cX4_undo 8 = .ok (.iconst 1, 1) := dk_4 (dk_at dksX4_undo_0 8 rfl rfl)
theorem dX4_undo_9 : decode cX4_undo 9 = .ok (.goto 4, 3) := dk_167 0 4 (dk_at dksX4_undo_0 9 rfl rfl)
theorem dX4_undo_12 : decode cX4_undo 12 = .ok (.iconst 0, 1) := dk_3 (dk_at dksX4_undo_0 12 rfl rfl)
theorem dX4_undo_13 : decode cX4_undo 13 = .ok (.putfield 69, 3) := dk_181 0 69 (dk_at dksX4_undo_0 13 rfl rfl)
theorem dX4_undo_16 : decode cX4_undo 16 = .ok (.aload_n 0, 1) := dk_42 (dk_at dksX4_undo_0 16 rfl rfl)
theorem dX4_undo_17 : decode cX4_undo 17 = .ok (.getfield 69, 3) := dk_180 0 69 (dk_at dksX4_undo_0 17 rfl rfl)
theorem dX4_undo_20 : decode cX4_undo 20 = .ok (.ifCond .le 5, 3) := dk_158 0 5 (dk_at dksX4_undo_0 20 rfl rfl)
theorem dX4_undo_23 : decode cX4_undo 23 = .ok (.iconst 0, 1) := dk_3 (dk_at dksX4_undo_0 23 rfl rfl)
theorem dX4_undo_24 : decode cX4_undo 24 = .ok (.ireturn, 1) := dk_172 (dk_at dksX4_undo_1 0 rfl rfl)
theorem dX4_undo_25 : decode cX4_undo 25 = .ok (.aload_n 0, 1) := dk_42 (dk_at dksX4_undo_1 1 rfl rfl)
theorem dX4_undo_26 : decode cX4_undo 26 = .ok (.dup, 1) := dk_89 (dk_at dksX4_undo_1 2 rfl rfl)
theorem dX4_undo_27 : decode cX4_undo 27 = .ok (.getfield 78, 3) := dk_180 0 78 (dk_at dksX4_undo_1 3 rfl rfl)
theorem dX4_undo_30 : decode cX4_undo 30 = .ok (.iconst 1, 1) := dk_4 (dk_at dksX4_undo_1 6 rfl rfl)
theorem dX4_undo_31 : decode cX4_undo 31 = .ok (.isub, 1) := dk_100 (dk_at dksX4_undo_1 7 rfl rfl)
theorem dX4_undo_32 : decode cX4_undo 32 = .ok (.putfield 78, 3) := dk_181 0 78 (dk_at dksX4_undo_1 8 rfl rfl)
theorem dX4_undo_35 : decode cX4_undo 35 = .ok (.aload_n 0, 1) := dk_42 (dk_at dksX4_undo_1 11 rfl rfl)
theorem dX4_undo_36 : decode cX4_undo 36 = .ok (.getfield 22, 3) := dk_180 0 22 (dk_at dksX4_undo_1 12 rfl rfl)
theorem dX4_undo_39 : decode cX4_undo 39 = .ok (.sipush 131, 3) := dk_17 0 131 (dk_at dksX4_undo_1 15 rfl rfl)
theorem dX4_undo_42 : decode cX4_undo 42 = .ok (.aload_n 0, 1) := dk_42 (dk_at dksX4_undo_1 18 rfl rfl)
theorem dX4_undo_43 : decode cX4_undo 43 = .ok (.getfield 78, 3) := dk_180 0 78 (dk_at dksX4_undo_1 19 rfl rfl)
theorem dX4_undo_46 : decode cX4_undo 46 = .ok (.imul, 1) := dk_104 (dk_at dksX4_undo_1 22 rfl rfl)
theorem dX4_undo_47 : decode cX4_undo 47 = .ok (.aload_n 0, 1) := dk_42 (dk_at dksX4_undo_1 23 rfl rfl)
theorem dX4_undo_48 : decode cX4_undo 48 = .ok (.getfield 9, 3) := dk_180 0 9 (dk_at dksX4_undo_2 0 rfl rfl)
theorem dX4_undo_51 : decode cX4_undo 51 = .ok (.iconst 0, 1) := dk_3 (dk_at dksX4_undo_2 3 rfl rfl)
theorem dX4_undo_52 : decode cX4_undo 52 = .ok (.sipush 131, 3) := dk_17 0 131 (dk_at dksX4_undo_2 4 rfl rfl)
theorem dX4_undo_55 : decode cX4_undo 55 = .ok (.invokestatic 72, 3) := dk_184 0 72 (dk_at dksX4_undo_2 7 rfl rfl)
theorem dX4_undo_58 : decode cX4_undo 58 = .ok (.aload_n 0, 1) := dk_42 (dk_at dksX4_undo_2 10 rfl rfl)
theorem dX4_undo_59 : decode cX4_undo 59 = .ok (.getfield 78, 3) := dk_180 0 78 (dk_at dksX4_undo_2 11 rfl rfl)
theorem dX4_undo_62 : decode cX4_undo 62 = .ok (.ireturn, 1) := dk_172 (dk_at dksX4_undo_2 14 rfl rfl)
abbrev cX4_snapshot : ByteArray := prog_21_method_88_code
def yX4_snapshot : MethodName := ⟨RX4, "snapshot", "()I"⟩
def dkwX4_snapshot_1 : List UInt8 := [181, 1, 33, 42, 180, 0, 9, 3, 46, 172]
abbrev dktX4_snapshot_1 : List UInt8 := dkwX4_snapshot_1 ++ []
def dkwX4_snapshot_0 : List UInt8 := [42, 3, 181, 0, 69, 42, 180, 0, 9, 3, 42, 180, 0, 19, 3, 17, 0, 131, 184, 0, 72, 42, 4]
abbrev dktX4_snapshot_0 : List UInt8 := dkwX4_snapshot_0 ++ dktX4_snapshot_1
theorem dksX4_snapshot_0 : cX4_snapshot.data.toList.drop 0 = dktX4_snapshot_0 := by decide +kernel
theorem dksX4_snapshot_1 : cX4_snapshot.data.toList.drop 23 = dktX4_snapshot_1 := dk_seg dksX4_snapshot_0 23 rfl rfl
theorem dX4_snapshot_0 : decode cX4_snapshot 0 = .ok (.aload_n 0, 1) := dk_42 (dk_at dksX4_snapshot_0 0 rfl rfl)
theorem dX4_snapshot_1 : decode cX4_snapshot 1 = .ok (.iconst 0, 1) := dk_3 (dk_at dksX4_snapshot_0 1 rfl rfl)
theorem dX4_snapshot_2 : decode cX4_snapshot 2 = .ok (.putfield 69, 3) := dk_181 0 69 (dk_at dksX4_snapshot_0 2 rfl rfl)
theorem dX4_snapshot_5 : decode cX4_snapshot 5 = .ok (.aload_n 0, 1) := dk_42 (dk_at dksX4_snapshot_0 5 rfl rfl)
theorem dX4_snapshot_6 : decode cX4_snapshot 6 = .ok (.getfield 9, 3) := dk_180 0 9 (dk_at dksX4_snapshot_0 6 rfl rfl)
theorem dX4_snapshot_9 : decode cX4_snapshot 9 = .ok (.iconst 0, 1) := dk_3 (dk_at dksX4_snapshot_0 9 rfl rfl)
theorem dX4_snapshot_10 : decode cX4_snapshot 10 = .ok (.aload_n 0, 1) := dk_42 (dk_at dksX4_snapshot_0 10 rfl rfl)
theorem dX4_snapshot_11 : decode cX4_snapshot 11 = .ok (.getfield 19, 3) := dk_180 0 19 (dk_at dksX4_snapshot_0 11 rfl rfl)
theorem dX4_snapshot_14 : decode cX4_snapshot 14 = .ok (.iconst 0, 1) := dk_3 (dk_at dksX4_snapshot_0 14 rfl rfl)
theorem dX4_snapshot_15 : decode cX4_snapshot 15 = .ok (.sipush 131, 3) := dk_17 0 131 (dk_at dksX4_snapshot_0 15 rfl rfl)
theorem dX4_snapshot_18 : decode cX4_snapshot 18 = .ok (.invokestatic 72, 3) := dk_184 0 72 (dk_at dksX4_snapshot_0 18 rfl rfl)
theorem dX4_snapshot_21 : decode cX4_snapshot 21 = .ok (.aload_n 0, 1) := dk_42 (dk_at dksX4_snapshot_0 21 rfl rfl)
theorem dX4_snapshot_22 : decode cX4_snapshot 22 = .ok (.iconst 1, 1) := dk_4 (dk_at dksX4_snapshot_0 22 rfl rfl)
theorem dX4_snapshot_23 : decode cX4_snapshot 23 = .ok (.putfield 289, 3) := dk_181 1 33 (dk_at dksX4_snapshot_1 0 rfl rfl)
theorem dX4_snapshot_26 : decode cX4_snapshot 26 = .ok (.aload_n 0, 1) := dk_42 (dk_at dksX4_snapshot_1 3 rfl rfl)
theorem dX4_snapshot_27 : decode cX4_snapshot 27 = .ok (.getfield 9, 3) := dk_180 0 9 (dk_at dksX4_snapshot_1 4 rfl rfl)
theorem dX4_snapshot_30 : decode cX4_snapshot 30 = .ok (.iconst 0, 1) := dk_3 (dk_at dksX4_snapshot_1 7 rfl rfl)
theorem dX4_snapshot_31 : decode cX4_snapshot 31 = .ok (.iaload, 1) := dk_46 (dk_at dksX4_snapshot_1 8 rfl rfl)
theorem dX4_snapshot_32 : decode cX4_snapshot 32 = .ok (.ireturn, 1) := dk_172 (dk_at dksX4_snapshot_1 9 rfl rfl)
abbrev cX4_restore : ByteArray := prog_21_method_89_code
def yX4_restore : MethodName := ⟨RX4, "restore", "()I"⟩
def dkwX4_restore_2 : List UInt8 := [180, 0, 9, 3, 46, 172]
abbrev dktX4_restore_2 : List UInt8 := dkwX4_restore_2 ++ []
def dkwX4_restore_1 : List UInt8 := [172, 42, 180, 0, 19, 3, 42, 180, 0, 9, 3, 17, 0, 131, 184, 0, 72, 42, 3, 181, 0, 78, 42]
abbrev dktX4_restore_1 : List UInt8 := dkwX4_restore_1 ++ dktX4_restore_2
def dkwX4_restore_0 : List UInt8 := [42, 42, 180, 1, 33, 153, 0, 7, 3, 167, 0, 4, 4, 181, 0, 69, 42, 180, 0, 69, 158, 0, 5, 3]
abbrev dktX4_restore_0 : List UInt8 := dkwX4_restore_0 ++ dktX4_restore_1
theorem dksX4_restore_0 : cX4_restore.data.toList.drop 0 = dktX4_restore_0 := by decide +kernel
theorem dksX4_restore_1 : cX4_restore.data.toList.drop 24 = dktX4_restore_1 := dk_seg dksX4_restore_0 24 rfl rfl
theorem dksX4_restore_2 : cX4_restore.data.toList.drop 47 = dktX4_restore_2 := dk_seg dksX4_restore_1 23 rfl rfl
theorem dX4_restore_0 : decode cX4_restore 0 = .ok (.aload_n 0, 1) := dk_42 (dk_at dksX4_restore_0 0 rfl rfl)
theorem dX4_restore_1 : decode cX4_restore 1 = .ok (.aload_n 0, 1) := dk_42 (dk_at dksX4_restore_0 1 rfl rfl)
theorem dX4_restore_2 : decode cX4_restore 2 = .ok (.getfield 289, 3) := dk_180 1 33 (dk_at dksX4_restore_0 2 rfl rfl)
theorem dX4_restore_5 : decode cX4_restore 5 = .ok (.ifCond .eq 7, 3) := dk_153 0 7 (dk_at dksX4_restore_0 5 rfl rfl)
theorem dX4_restore_8 : decode cX4_restore 8 = .ok (.iconst 0, 1) := dk_3 (dk_at dksX4_restore_0 8 rfl rfl)
theorem dX4_restore_9 : decode cX4_restore 9 = .ok (.goto 4, 3) := dk_167 0 4 (dk_at dksX4_restore_0 9 rfl rfl)
theorem dX4_restore_12 : decode cX4_restore 12 = .ok (.iconst 1, 1) := dk_4 (dk_at dksX4_restore_0 12 rfl rfl)
theorem dX4_restore_13 : decode cX4_restore 13 = .ok (.putfield 69, 3) := dk_181 0 69 (dk_at dksX4_restore_0 13 rfl rfl)
theorem dX4_restore_16 : decode cX4_restore 16 = .ok (.aload_n 0, 1) := dk_42 (dk_at dksX4_restore_0 16 rfl rfl)
theorem dX4_restore_17 : decode cX4_restore 17 = .ok (.getfield 69, 3) := dk_180 0 69 (dk_at dksX4_restore_0 17 rfl rfl)
theorem dX4_restore_20 : decode cX4_restore 20 = .ok (.ifCond .le 5, 3) := dk_158 0 5 (dk_at dksX4_restore_0 20 rfl rfl)
theorem dX4_restore_23 : decode cX4_restore 23 = .ok (.iconst 0, 1) := dk_3 (dk_at dksX4_restore_0 23 rfl rfl)
theorem dX4_restore_24 : decode cX4_restore 24 = .ok (.ireturn, 1) := dk_172 (dk_at dksX4_restore_1 0 rfl rfl)
theorem dX4_restore_25 : decode cX4_restore 25 = .ok (.aload_n 0, 1) := dk_42 (dk_at dksX4_restore_1 1 rfl rfl)
theorem dX4_restore_26 : decode cX4_restore 26 = .ok (.getfield 19, 3) := dk_180 0 19 (dk_at dksX4_restore_1 2 rfl rfl)
theorem dX4_restore_29 : decode cX4_restore 29 = .ok (.iconst 0, 1) := dk_3 (dk_at dksX4_restore_1 5 rfl rfl)
theorem dX4_restore_30 : decode cX4_restore 30 = .ok (.aload_n 0, 1) := dk_42 (dk_at dksX4_restore_1 6 rfl rfl)
theorem dX4_restore_31 : decode cX4_restore 31 = .ok (.getfield 9, 3) := dk_180 0 9 (dk_at dksX4_restore_1 7 rfl rfl)
theorem dX4_restore_34 : decode cX4_restore 34 = .ok (.iconst 0, 1) := dk_3 (dk_at dksX4_restore_1 10 rfl rfl)
theorem dX4_restore_35 : decode cX4_restore 35 = .ok (.sipush 131, 3) := dk_17 0 131 (dk_at dksX4_restore_1 11 rfl rfl)
theorem dX4_restore_38 : decode cX4_restore 38 = .ok (.invokestatic 72, 3) := dk_184 0 72 (dk_at dksX4_restore_1 14 rfl rfl)
theorem dX4_restore_41 : decode cX4_restore 41 = .ok (.aload_n 0, 1) := dk_42 (dk_at dksX4_restore_1 17 rfl rfl)
theorem dX4_restore_42 : decode cX4_restore 42 = .ok (.iconst 0, 1) := dk_3 (dk_at dksX4_restore_1 18 rfl rfl)
theorem dX4_restore_43 : decode cX4_restore 43 = .ok (.putfield 78, 3) := dk_181 0 78 (dk_at dksX4_restore_1 19 rfl rfl)
theorem dX4_restore_46 : decode cX4_restore 46 = .ok (.aload_n 0, 1) := dk_42 (dk_at dksX4_restore_1 22 rfl rfl)
theorem dX4_restore_47 : decode cX4_restore 47 = .ok (.getfield 9, 3) := dk_180 0 9 (dk_at dksX4_restore_2 0 rfl rfl)
theorem dX4_restore_50 : decode cX4_restore 50 = .ok (.iconst 0, 1) := dk_3 (dk_at dksX4_restore_2 3 rfl rfl)
theorem dX4_restore_51 : decode cX4_restore 51 = .ok (.iaload, 1) := dk_46 (dk_at dksX4_restore_2 4 rfl rfl)
theorem dX4_restore_52 : decode cX4_restore 52 = .ok (.ireturn, 1) := dk_172 (dk_at dksX4_restore_2 5 rfl rfl)
theorem q80 : (Jvm.Cond.initialized "CurtainRiggersModel") ∈ lw_all := lw_g (lw_at lw_m1 12 rfl) rfl
theorem q692 : (Jvm.Cond.selects "CurtainRiggersModel" ({ cls := "java/lang/Object", name := "getClass", desc := "()Ljava/lang/Class;" } : Jvm.MethodName) ({ cls := "java/lang/Object", name := "getClass", desc := "()Ljava/lang/Class;" } : Jvm.MethodName)) ∈ lw_all := lw_g (lw_at lw_m3 144 rfl) rfl
theorem q2240 : (Jvm.Cond.instantiable "CurtainRiggersModel" (21 : Nat)) ∈ lw_all := lw_g (lw_at lw_m10 12 rfl) rfl
theorem q2242 : (Jvm.Cond.instanceMethod ({ cls := "CurtainRiggersModel", name := "<init>", desc := "()V" } : Jvm.MethodName)) ∈ lw_all := lw_g (lw_at lw_m10 14 rfl) rfl
theorem q2243 : (Jvm.Cond.code ({ cls := "CurtainRiggersModel", name := "<init>", desc := "()V" } : Jvm.MethodName) prog_21_method_1_code (1 : Nat) (Option.none : Option Jvm.ClassFile.FieldType)) ∈ lw_all := lw_g (lw_at lw_m10 15 rfl) rfl
theorem q2244 : (Jvm.Cond.methodLink "CurtainRiggersModel" (3 : Nat) ({ cls := "java/lang/Object", name := "<init>", desc := "()V" } : Jvm.MethodName)) ∈ lw_all := lw_g (lw_at lw_m10 16 rfl) rfl
theorem q2245 : (Jvm.Cond.classLink "CurtainRiggersModel" (29 : Nat) "java/lang/String") ∈ lw_all := lw_g (lw_at lw_m10 17 rfl) rfl
theorem q2246 : (Jvm.Cond.stringRef "CurtainRiggersModel" (31 : Nat) "hang ") ∈ lw_tbl := lw_at lw_m10 18 rfl
theorem q2247 : (Jvm.Cond.stringRef "CurtainRiggersModel" (33 : Nat) "drop ") ∈ lw_tbl := lw_at lw_m10 19 rfl
theorem q2248 : (Jvm.Cond.stringRef "CurtainRiggersModel" (35 : Nat) "add ") ∈ lw_tbl := lw_at lw_m10 20 rfl
theorem q2249 : (Jvm.Cond.stringRef "CurtainRiggersModel" (37 : Nat) "off ") ∈ lw_tbl := lw_at lw_m10 21 rfl
theorem q2250 : (Jvm.Cond.stringRef "CurtainRiggersModel" (39 : Nat) "fly ") ∈ lw_tbl := lw_at lw_m10 22 rfl
theorem q2251 : (Jvm.Cond.stringRef "CurtainRiggersModel" (41 : Nat) "go") ∈ lw_tbl := lw_at lw_m10 23 rfl
theorem q2252 : (Jvm.Cond.stringRef "CurtainRiggersModel" (43 : Nat) "open ") ∈ lw_tbl := lw_at lw_m10 24 rfl
theorem q2253 : (Jvm.Cond.stringRef "CurtainRiggersModel" (45 : Nat) "close ") ∈ lw_tbl := lw_at lw_m10 25 rfl
theorem q2254 : (Jvm.Cond.stringRef "CurtainRiggersModel" (47 : Nat) "year") ∈ lw_tbl := lw_at lw_m10 26 rfl
theorem q2255 : (Jvm.Cond.methodLink "CurtainRiggersModel" (66 : Nat) ({ cls := "CurtainRiggersModel", name := "empties", desc := "()V" } : Jvm.MethodName)) ∈ lw_all := lw_g (lw_at lw_m10 27 rfl) rfl
theorem q2256 : (Jvm.Cond.privateMethod ({ cls := "CurtainRiggersModel", name := "empties", desc := "()V" } : Jvm.MethodName)) ∈ lw_tbl := lw_at lw_m10 28 rfl
theorem q2257 : (Jvm.Cond.instanceMethod ({ cls := "CurtainRiggersModel", name := "empties", desc := "()V" } : Jvm.MethodName)) ∈ lw_all := lw_g (lw_at lw_m10 29 rfl) rfl
theorem q2258 : (Jvm.Cond.code ({ cls := "CurtainRiggersModel", name := "empties", desc := "()V" } : Jvm.MethodName) prog_21_method_2_code (2 : Nat) (Option.none : Option Jvm.ClassFile.FieldType)) ∈ lw_all := lw_g (lw_at lw_m10 30 rfl) rfl
theorem q2259 : (Jvm.Cond.fieldLink "CurtainRiggersModel" (9 : Nat) "CurtainRiggersModel" "s" "[I") ∈ lw_all := lw_g (lw_at lw_m10 31 rfl) rfl
theorem q2260 : (Jvm.Cond.fieldLink "CurtainRiggersModel" (13 : Nat) "CurtainRiggersModel" "before" "[I") ∈ lw_all := lw_g (lw_at lw_m10 32 rfl) rfl
theorem q2261 : (Jvm.Cond.fieldLink "CurtainRiggersModel" (16 : Nat) "CurtainRiggersModel" "aside" "[I") ∈ lw_all := lw_g (lw_at lw_m10 33 rfl) rfl
theorem q2262 : (Jvm.Cond.fieldLink "CurtainRiggersModel" (19 : Nat) "CurtainRiggersModel" "saved" "[I") ∈ lw_all := lw_g (lw_at lw_m10 34 rfl) rfl
theorem q2263 : (Jvm.Cond.fieldLink "CurtainRiggersModel" (289 : Nat) "CurtainRiggersModel" "isSaved" "Z") ∈ lw_all := lw_g (lw_at lw_m10 35 rfl) rfl
theorem q2264 : (Jvm.Cond.fieldLink "CurtainRiggersModel" (22 : Nat) "CurtainRiggersModel" "past" "[I") ∈ lw_all := lw_g (lw_at lw_m10 36 rfl) rfl
theorem q2265 : (Jvm.Cond.fieldLink "CurtainRiggersModel" (78 : Nat) "CurtainRiggersModel" "pastMany" "I") ∈ lw_all := lw_g (lw_at lw_m10 37 rfl) rfl
theorem q2266 : (Jvm.Cond.fieldLink "CurtainRiggersModel" (69 : Nat) "CurtainRiggersModel" "thrown" "I") ∈ lw_all := lw_g (lw_at lw_m10 38 rfl) rfl
theorem q2267 : (Jvm.Cond.fieldLink "CurtainRiggersModel" (81 : Nat) "CurtainRiggersModel" "reason" "I") ∈ lw_all := lw_g (lw_at lw_m10 39 rfl) rfl
theorem q2268 : (Jvm.Cond.fieldLink "CurtainRiggersModel" (84 : Nat) "CurtainRiggersModel" "detail" "I") ∈ lw_all := lw_g (lw_at lw_m10 40 rfl) rfl
theorem q2269 : (Jvm.Cond.fieldLink "CurtainRiggersModel" (25 : Nat) "CurtainRiggersModel" "line" "[C") ∈ lw_all := lw_g (lw_at lw_m10 41 rfl) rfl
theorem q2270 : (Jvm.Cond.fieldLink "CurtainRiggersModel" (209 : Nat) "CurtainRiggersModel" "lineMany" "I") ∈ lw_all := lw_g (lw_at lw_m10 42 rfl) rfl
theorem q2271 : (Jvm.Cond.fieldLink "CurtainRiggersModel" (49 : Nat) "CurtainRiggersModel" "words" "[Ljava/lang/String;") ∈ lw_all := lw_g (lw_at lw_m10 43 rfl) rfl
theorem q2272 : (Jvm.Cond.fieldLink "CurtainRiggersModel" (53 : Nat) "CurtainRiggersModel" "text" "[I") ∈ lw_all := lw_g (lw_at lw_m10 44 rfl) rfl
theorem q2273 : (Jvm.Cond.fieldLink "CurtainRiggersModel" (253 : Nat) "CurtainRiggersModel" "length" "I") ∈ lw_all := lw_g (lw_at lw_m10 45 rfl) rfl
theorem q2274 : (Jvm.Cond.fieldLink "CurtainRiggersModel" (259 : Nat) "CurtainRiggersModel" "place" "I") ∈ lw_all := lw_g (lw_at lw_m10 46 rfl) rfl
theorem q2275 : (Jvm.Cond.fieldLink "CurtainRiggersModel" (255 : Nat) "CurtainRiggersModel" "isWrong" "Z") ∈ lw_all := lw_g (lw_at lw_m10 47 rfl) rfl
theorem q2276 : (Jvm.Cond.fieldLink "CurtainRiggersModel" (56 : Nat) "CurtainRiggersModel" "error" "I") ∈ lw_all := lw_g (lw_at lw_m10 48 rfl) rfl
theorem q2277 : (Jvm.Cond.fieldLink "CurtainRiggersModel" (60 : Nat) "CurtainRiggersModel" "refused" "I") ∈ lw_all := lw_g (lw_at lw_m10 49 rfl) rfl
theorem q2278 : (Jvm.Cond.fieldLink "CurtainRiggersModel" (63 : Nat) "CurtainRiggersModel" "items" "[I") ∈ lw_all := lw_g (lw_at lw_m10 50 rfl) rfl
theorem q2279 : (Jvm.Cond.fieldLink "CurtainRiggersModel" (277 : Nat) "CurtainRiggersModel" "itemMany" "I") ∈ lw_all := lw_g (lw_at lw_m10 51 rfl) rfl
theorem q2280 : (Jvm.Cond.laysFinal "CurtainRiggersModel" "CurtainRiggersModel" "s" "[I") ∈ lw_all := lw_g (lw_at lw_m10 52 rfl) rfl
theorem q2281 : (Jvm.Cond.soleField "CurtainRiggersModel" "s") ∈ lw_all := lw_g (lw_at lw_m10 53 rfl) rfl
theorem q2282 : (Jvm.Cond.laysFinal "CurtainRiggersModel" "CurtainRiggersModel" "before" "[I") ∈ lw_all := lw_g (lw_at lw_m10 54 rfl) rfl
theorem q2283 : (Jvm.Cond.soleField "CurtainRiggersModel" "before") ∈ lw_all := lw_g (lw_at lw_m10 55 rfl) rfl
theorem q2284 : (Jvm.Cond.laysFinal "CurtainRiggersModel" "CurtainRiggersModel" "aside" "[I") ∈ lw_all := lw_g (lw_at lw_m10 56 rfl) rfl
theorem q2285 : (Jvm.Cond.soleField "CurtainRiggersModel" "aside") ∈ lw_all := lw_g (lw_at lw_m10 57 rfl) rfl
theorem q2286 : (Jvm.Cond.laysFinal "CurtainRiggersModel" "CurtainRiggersModel" "saved" "[I") ∈ lw_all := lw_g (lw_at lw_m10 58 rfl) rfl
theorem q2287 : (Jvm.Cond.soleField "CurtainRiggersModel" "saved") ∈ lw_all := lw_g (lw_at lw_m10 59 rfl) rfl
theorem q2288 : (Jvm.Cond.lays "CurtainRiggersModel" "CurtainRiggersModel" "isSaved" "Z") ∈ lw_all := lw_g (lw_at lw_m10 60 rfl) rfl
theorem q2289 : (Jvm.Cond.soleField "CurtainRiggersModel" "isSaved") ∈ lw_all := lw_g (lw_at lw_m10 61 rfl) rfl
theorem q2290 : (Jvm.Cond.laysFinal "CurtainRiggersModel" "CurtainRiggersModel" "past" "[I") ∈ lw_all := lw_g (lw_at lw_m10 62 rfl) rfl
theorem q2291 : (Jvm.Cond.soleField "CurtainRiggersModel" "past") ∈ lw_all := lw_g (lw_at lw_m10 63 rfl) rfl
theorem q2292 : (Jvm.Cond.lays "CurtainRiggersModel" "CurtainRiggersModel" "pastMany" "I") ∈ lw_all := lw_g (lw_at lw_m10 64 rfl) rfl
theorem q2293 : (Jvm.Cond.soleField "CurtainRiggersModel" "pastMany") ∈ lw_all := lw_g (lw_at lw_m10 65 rfl) rfl
theorem q2294 : (Jvm.Cond.lays "CurtainRiggersModel" "CurtainRiggersModel" "thrown" "I") ∈ lw_all := lw_g (lw_at lw_m10 66 rfl) rfl
theorem q2295 : (Jvm.Cond.soleField "CurtainRiggersModel" "thrown") ∈ lw_all := lw_g (lw_at lw_m10 67 rfl) rfl
theorem q2296 : (Jvm.Cond.lays "CurtainRiggersModel" "CurtainRiggersModel" "reason" "I") ∈ lw_all := lw_g (lw_at lw_m10 68 rfl) rfl
theorem q2297 : (Jvm.Cond.soleField "CurtainRiggersModel" "reason") ∈ lw_all := lw_g (lw_at lw_m10 69 rfl) rfl
theorem q2298 : (Jvm.Cond.lays "CurtainRiggersModel" "CurtainRiggersModel" "detail" "I") ∈ lw_all := lw_g (lw_at lw_m10 70 rfl) rfl
theorem q2299 : (Jvm.Cond.soleField "CurtainRiggersModel" "detail") ∈ lw_all := lw_g (lw_at lw_m10 71 rfl) rfl
theorem q2300 : (Jvm.Cond.laysFinal "CurtainRiggersModel" "CurtainRiggersModel" "line" "[C") ∈ lw_all := lw_g (lw_at lw_m10 72 rfl) rfl
theorem q2301 : (Jvm.Cond.soleField "CurtainRiggersModel" "line") ∈ lw_all := lw_g (lw_at lw_m10 73 rfl) rfl
theorem q2302 : (Jvm.Cond.lays "CurtainRiggersModel" "CurtainRiggersModel" "lineMany" "I") ∈ lw_all := lw_g (lw_at lw_m10 74 rfl) rfl
theorem q2303 : (Jvm.Cond.soleField "CurtainRiggersModel" "lineMany") ∈ lw_all := lw_g (lw_at lw_m10 75 rfl) rfl
theorem q2304 : (Jvm.Cond.laysFinal "CurtainRiggersModel" "CurtainRiggersModel" "words" "[Ljava/lang/String;") ∈ lw_all := lw_g (lw_at lw_m10 76 rfl) rfl
theorem q2305 : (Jvm.Cond.soleField "CurtainRiggersModel" "words") ∈ lw_all := lw_g (lw_at lw_m10 77 rfl) rfl
theorem q2306 : (Jvm.Cond.laysFinal "CurtainRiggersModel" "CurtainRiggersModel" "text" "[I") ∈ lw_all := lw_g (lw_at lw_m10 78 rfl) rfl
theorem q2307 : (Jvm.Cond.soleField "CurtainRiggersModel" "text") ∈ lw_all := lw_g (lw_at lw_m10 79 rfl) rfl
theorem q2308 : (Jvm.Cond.lays "CurtainRiggersModel" "CurtainRiggersModel" "length" "I") ∈ lw_all := lw_g (lw_at lw_m10 80 rfl) rfl
theorem q2309 : (Jvm.Cond.soleField "CurtainRiggersModel" "length") ∈ lw_all := lw_g (lw_at lw_m10 81 rfl) rfl
theorem q2310 : (Jvm.Cond.lays "CurtainRiggersModel" "CurtainRiggersModel" "place" "I") ∈ lw_all := lw_g (lw_at lw_m10 82 rfl) rfl
theorem q2311 : (Jvm.Cond.soleField "CurtainRiggersModel" "place") ∈ lw_all := lw_g (lw_at lw_m10 83 rfl) rfl
theorem q2312 : (Jvm.Cond.lays "CurtainRiggersModel" "CurtainRiggersModel" "isWrong" "Z") ∈ lw_all := lw_g (lw_at lw_m10 84 rfl) rfl
theorem q2313 : (Jvm.Cond.soleField "CurtainRiggersModel" "isWrong") ∈ lw_all := lw_g (lw_at lw_m10 85 rfl) rfl
theorem q2314 : (Jvm.Cond.lays "CurtainRiggersModel" "CurtainRiggersModel" "error" "I") ∈ lw_all := lw_g (lw_at lw_m10 86 rfl) rfl
theorem q2315 : (Jvm.Cond.soleField "CurtainRiggersModel" "error") ∈ lw_all := lw_g (lw_at lw_m10 87 rfl) rfl
theorem q2316 : (Jvm.Cond.lays "CurtainRiggersModel" "CurtainRiggersModel" "refused" "I") ∈ lw_all := lw_g (lw_at lw_m10 88 rfl) rfl
theorem q2317 : (Jvm.Cond.soleField "CurtainRiggersModel" "refused") ∈ lw_all := lw_g (lw_at lw_m10 89 rfl) rfl
theorem q2318 : (Jvm.Cond.laysFinal "CurtainRiggersModel" "CurtainRiggersModel" "items" "[I") ∈ lw_all := lw_g (lw_at lw_m10 90 rfl) rfl
theorem q2319 : (Jvm.Cond.soleField "CurtainRiggersModel" "items") ∈ lw_all := lw_g (lw_at lw_m10 91 rfl) rfl
theorem q2320 : (Jvm.Cond.lays "CurtainRiggersModel" "CurtainRiggersModel" "itemMany" "I") ∈ lw_all := lw_g (lw_at lw_m10 92 rfl) rfl
theorem q2321 : (Jvm.Cond.soleField "CurtainRiggersModel" "itemMany") ∈ lw_all := lw_g (lw_at lw_m10 93 rfl) rfl
theorem q2322 : (Jvm.Cond.superclass "CurtainRiggersModel" "java/lang/Object") ∈ lw_all := lw_g (lw_at lw_m10 94 rfl) rfl
theorem q2326 : (Jvm.Cond.instanceMethod ({ cls := "CurtainRiggersModel", name := "thrown", desc := "()I" } : Jvm.MethodName)) ∈ lw_all := lw_g (lw_at lw_m10 98 rfl) rfl
theorem q2327 : (Jvm.Cond.selects "CurtainRiggersModel" ({ cls := "CurtainRiggersModel", name := "thrown", desc := "()I" } : Jvm.MethodName) ({ cls := "CurtainRiggersModel", name := "thrown", desc := "()I" } : Jvm.MethodName)) ∈ lw_all := lw_g (lw_at lw_m10 99 rfl) rfl
theorem q2328 : (Jvm.Cond.code ({ cls := "CurtainRiggersModel", name := "thrown", desc := "()I" } : Jvm.MethodName) prog_21_method_3_code (1 : Nat) (Option.some Jvm.ClassFile.FieldType.int)) ∈ lw_all := lw_g (lw_at lw_m10 100 rfl) rfl
theorem q2330 : (Jvm.Cond.instanceMethod ({ cls := "CurtainRiggersModel", name := "refusal", desc := "(Z)I" } : Jvm.MethodName)) ∈ lw_all := lw_g (lw_at lw_m10 102 rfl) rfl
theorem q2331 : (Jvm.Cond.selects "CurtainRiggersModel" ({ cls := "CurtainRiggersModel", name := "refusal", desc := "(Z)I" } : Jvm.MethodName) ({ cls := "CurtainRiggersModel", name := "refusal", desc := "(Z)I" } : Jvm.MethodName)) ∈ lw_all := lw_g (lw_at lw_m10 103 rfl) rfl
theorem q2332 : (Jvm.Cond.code ({ cls := "CurtainRiggersModel", name := "refusal", desc := "(Z)I" } : Jvm.MethodName) prog_21_method_9_code (2 : Nat) (Option.some Jvm.ClassFile.FieldType.int)) ∈ lw_all := lw_g (lw_at lw_m10 104 rfl) rfl
theorem q2334 : (Jvm.Cond.instanceMethod ({ cls := "CurtainRiggersModel", name := "clear", desc := "()I" } : Jvm.MethodName)) ∈ lw_all := lw_g (lw_at lw_m10 106 rfl) rfl
theorem q2335 : (Jvm.Cond.selects "CurtainRiggersModel" ({ cls := "CurtainRiggersModel", name := "clear", desc := "()I" } : Jvm.MethodName) ({ cls := "CurtainRiggersModel", name := "clear", desc := "()I" } : Jvm.MethodName)) ∈ lw_all := lw_g (lw_at lw_m10 107 rfl) rfl
theorem q2336 : (Jvm.Cond.code ({ cls := "CurtainRiggersModel", name := "clear", desc := "()I" } : Jvm.MethodName) prog_21_method_10_code (2 : Nat) (Option.some Jvm.ClassFile.FieldType.int)) ∈ lw_all := lw_g (lw_at lw_m10 108 rfl) rfl
theorem q2338 : (Jvm.Cond.instanceMethod ({ cls := "CurtainRiggersModel", name := "told", desc := "(I)I" } : Jvm.MethodName)) ∈ lw_all := lw_g (lw_at lw_m10 110 rfl) rfl
theorem q2339 : (Jvm.Cond.selects "CurtainRiggersModel" ({ cls := "CurtainRiggersModel", name := "told", desc := "(I)I" } : Jvm.MethodName) ({ cls := "CurtainRiggersModel", name := "told", desc := "(I)I" } : Jvm.MethodName)) ∈ lw_all := lw_g (lw_at lw_m10 111 rfl) rfl
theorem q2340 : (Jvm.Cond.code ({ cls := "CurtainRiggersModel", name := "told", desc := "(I)I" } : Jvm.MethodName) prog_21_method_22_code (3 : Nat) (Option.some Jvm.ClassFile.FieldType.int)) ∈ lw_all := lw_g (lw_at lw_m10 112 rfl) rfl
theorem q2341 : (Jvm.Cond.methodLink "CurtainRiggersModel" (116 : Nat) ({ cls := "CurtainRiggersModel", name := "keep", desc := "()V" } : Jvm.MethodName)) ∈ lw_all := lw_g (lw_at lw_m10 113 rfl) rfl
theorem q2342 : (Jvm.Cond.privateMethod ({ cls := "CurtainRiggersModel", name := "keep", desc := "()V" } : Jvm.MethodName)) ∈ lw_tbl := lw_at lw_m10 114 rfl
theorem q2343 : (Jvm.Cond.instanceMethod ({ cls := "CurtainRiggersModel", name := "keep", desc := "()V" } : Jvm.MethodName)) ∈ lw_all := lw_g (lw_at lw_m10 115 rfl) rfl
theorem q2344 : (Jvm.Cond.code ({ cls := "CurtainRiggersModel", name := "keep", desc := "()V" } : Jvm.MethodName) prog_21_method_5_code (1 : Nat) (Option.none : Option Jvm.ClassFile.FieldType)) ∈ lw_all := lw_g (lw_at lw_m10 116 rfl) rfl
theorem q2345 : (Jvm.Cond.methodLink "CurtainRiggersModel" (72 : Nat) ({ cls := "java/lang/System", name := "arraycopy", desc := "(Ljava/lang/Object;ILjava/lang/Object;II)V" } : Jvm.MethodName)) ∈ lw_all := lw_g (lw_at lw_m10 117 rfl) rfl
theorem q2346 : (Jvm.Cond.methodLink "CurtainRiggersModel" (87 : Nat) ({ cls := "CurtainRiggersModel", name := "in", desc := "(III)Z" } : Jvm.MethodName)) ∈ lw_all := lw_g (lw_at lw_m10 118 rfl) rfl
theorem q2347 : (Jvm.Cond.static ({ cls := "CurtainRiggersModel", name := "in", desc := "(III)Z" } : Jvm.MethodName)) ∈ lw_all := lw_g (lw_at lw_m10 119 rfl) rfl
theorem q2348 : (Jvm.Cond.code ({ cls := "CurtainRiggersModel", name := "in", desc := "(III)Z" } : Jvm.MethodName) prog_21_method_4_code (3 : Nat) (Option.some Jvm.ClassFile.FieldType.boolean)) ∈ lw_all := lw_g (lw_at lw_m10 120 rfl) rfl
theorem q2349 : (Jvm.Cond.methodLink "CurtainRiggersModel" (119 : Nat) ({ cls := "CurtainRiggersModel", name := "fails", desc := "(I)I" } : Jvm.MethodName)) ∈ lw_all := lw_g (lw_at lw_m10 121 rfl) rfl
theorem q2350 : (Jvm.Cond.privateMethod ({ cls := "CurtainRiggersModel", name := "fails", desc := "(I)I" } : Jvm.MethodName)) ∈ lw_tbl := lw_at lw_m10 122 rfl
theorem q2351 : (Jvm.Cond.instanceMethod ({ cls := "CurtainRiggersModel", name := "fails", desc := "(I)I" } : Jvm.MethodName)) ∈ lw_all := lw_g (lw_at lw_m10 123 rfl) rfl
theorem q2352 : (Jvm.Cond.code ({ cls := "CurtainRiggersModel", name := "fails", desc := "(I)I" } : Jvm.MethodName) prog_21_method_7_code (2 : Nat) (Option.some Jvm.ClassFile.FieldType.int)) ∈ lw_all := lw_g (lw_at lw_m10 124 rfl) rfl
theorem q2353 : (Jvm.Cond.methodLink "CurtainRiggersModel" (122 : Nat) ({ cls := "CurtainRiggersModel", name := "ends", desc := "(I)I" } : Jvm.MethodName)) ∈ lw_all := lw_g (lw_at lw_m10 125 rfl) rfl
theorem q2354 : (Jvm.Cond.privateMethod ({ cls := "CurtainRiggersModel", name := "ends", desc := "(I)I" } : Jvm.MethodName)) ∈ lw_tbl := lw_at lw_m10 126 rfl
theorem q2355 : (Jvm.Cond.instanceMethod ({ cls := "CurtainRiggersModel", name := "ends", desc := "(I)I" } : Jvm.MethodName)) ∈ lw_all := lw_g (lw_at lw_m10 127 rfl) rfl
theorem q2356 : (Jvm.Cond.code ({ cls := "CurtainRiggersModel", name := "ends", desc := "(I)I" } : Jvm.MethodName) prog_21_method_6_code (2 : Nat) (Option.some Jvm.ClassFile.FieldType.int)) ∈ lw_all := lw_g (lw_at lw_m10 128 rfl) rfl
theorem q2358 : (Jvm.Cond.instanceMethod ({ cls := "CurtainRiggersModel", name := "bar", desc := "()I" } : Jvm.MethodName)) ∈ lw_all := lw_g (lw_at lw_m10 130 rfl) rfl
theorem q2359 : (Jvm.Cond.selects "CurtainRiggersModel" ({ cls := "CurtainRiggersModel", name := "bar", desc := "()I" } : Jvm.MethodName) ({ cls := "CurtainRiggersModel", name := "bar", desc := "()I" } : Jvm.MethodName)) ∈ lw_all := lw_g (lw_at lw_m10 131 rfl) rfl
theorem q2360 : (Jvm.Cond.code ({ cls := "CurtainRiggersModel", name := "bar", desc := "()I" } : Jvm.MethodName) prog_21_method_23_code (3 : Nat) (Option.some Jvm.ClassFile.FieldType.int)) ∈ lw_all := lw_g (lw_at lw_m10 132 rfl) rfl
theorem q2361 : (Jvm.Cond.methodLink "CurtainRiggersModel" (125 : Nat) ({ cls := "CurtainRiggersModel", name := "setBar", desc := "(III)V" } : Jvm.MethodName)) ∈ lw_all := lw_g (lw_at lw_m10 133 rfl) rfl
theorem q2362 : (Jvm.Cond.privateMethod ({ cls := "CurtainRiggersModel", name := "setBar", desc := "(III)V" } : Jvm.MethodName)) ∈ lw_tbl := lw_at lw_m10 134 rfl
theorem q2363 : (Jvm.Cond.instanceMethod ({ cls := "CurtainRiggersModel", name := "setBar", desc := "(III)V" } : Jvm.MethodName)) ∈ lw_all := lw_g (lw_at lw_m10 135 rfl) rfl
theorem q2364 : (Jvm.Cond.code ({ cls := "CurtainRiggersModel", name := "setBar", desc := "(III)V" } : Jvm.MethodName) prog_21_method_12_code (4 : Nat) (Option.none : Option Jvm.ClassFile.FieldType)) ∈ lw_all := lw_g (lw_at lw_m10 136 rfl) rfl
theorem q2366 : (Jvm.Cond.instanceMethod ({ cls := "CurtainRiggersModel", name := "barOf", desc := "(II)I" } : Jvm.MethodName)) ∈ lw_all := lw_g (lw_at lw_m10 138 rfl) rfl
theorem q2367 : (Jvm.Cond.selects "CurtainRiggersModel" ({ cls := "CurtainRiggersModel", name := "barOf", desc := "(II)I" } : Jvm.MethodName) ({ cls := "CurtainRiggersModel", name := "barOf", desc := "(II)I" } : Jvm.MethodName)) ∈ lw_all := lw_g (lw_at lw_m10 139 rfl) rfl
theorem q2368 : (Jvm.Cond.code ({ cls := "CurtainRiggersModel", name := "barOf", desc := "(II)I" } : Jvm.MethodName) prog_21_method_24_code (3 : Nat) (Option.some Jvm.ClassFile.FieldType.int)) ∈ lw_all := lw_g (lw_at lw_m10 140 rfl) rfl
theorem q2369 : (Jvm.Cond.methodLink "CurtainRiggersModel" (129 : Nat) ({ cls := "CurtainRiggersModel", name := "isBar", desc := "(I)Z" } : Jvm.MethodName)) ∈ lw_all := lw_g (lw_at lw_m10 141 rfl) rfl
theorem q2370 : (Jvm.Cond.privateMethod ({ cls := "CurtainRiggersModel", name := "isBar", desc := "(I)Z" } : Jvm.MethodName)) ∈ lw_tbl := lw_at lw_m10 142 rfl
theorem q2371 : (Jvm.Cond.instanceMethod ({ cls := "CurtainRiggersModel", name := "isBar", desc := "(I)Z" } : Jvm.MethodName)) ∈ lw_all := lw_g (lw_at lw_m10 143 rfl) rfl
theorem q2372 : (Jvm.Cond.code ({ cls := "CurtainRiggersModel", name := "isBar", desc := "(I)Z" } : Jvm.MethodName) prog_21_method_13_code (2 : Nat) (Option.some Jvm.ClassFile.FieldType.boolean)) ∈ lw_all := lw_g (lw_at lw_m10 144 rfl) rfl
theorem q2373 : (Jvm.Cond.methodLink "CurtainRiggersModel" (101 : Nat) ({ cls := "CurtainRiggersModel", name := "bar1", desc := "(II)I" } : Jvm.MethodName)) ∈ lw_all := lw_g (lw_at lw_m10 145 rfl) rfl
theorem q2374 : (Jvm.Cond.privateMethod ({ cls := "CurtainRiggersModel", name := "bar1", desc := "(II)I" } : Jvm.MethodName)) ∈ lw_tbl := lw_at lw_m10 146 rfl
theorem q2375 : (Jvm.Cond.instanceMethod ({ cls := "CurtainRiggersModel", name := "bar1", desc := "(II)I" } : Jvm.MethodName)) ∈ lw_all := lw_g (lw_at lw_m10 147 rfl) rfl
theorem q2376 : (Jvm.Cond.code ({ cls := "CurtainRiggersModel", name := "bar1", desc := "(II)I" } : Jvm.MethodName) prog_21_method_11_code (3 : Nat) (Option.some Jvm.ClassFile.FieldType.int)) ∈ lw_all := lw_g (lw_at lw_m10 148 rfl) rfl
theorem q2377 : (Jvm.Cond.methodLink "CurtainRiggersModel" (98 : Nat) ({ cls := "CurtainRiggersModel", name := "load", desc := "(I)I" } : Jvm.MethodName)) ∈ lw_all := lw_g (lw_at lw_m10 149 rfl) rfl
theorem q2378 : (Jvm.Cond.privateMethod ({ cls := "CurtainRiggersModel", name := "load", desc := "(I)I" } : Jvm.MethodName)) ∈ lw_tbl := lw_at lw_m10 150 rfl
theorem q2379 : (Jvm.Cond.instanceMethod ({ cls := "CurtainRiggersModel", name := "load", desc := "(I)I" } : Jvm.MethodName)) ∈ lw_all := lw_g (lw_at lw_m10 151 rfl) rfl
theorem q2380 : (Jvm.Cond.code ({ cls := "CurtainRiggersModel", name := "load", desc := "(I)I" } : Jvm.MethodName) prog_21_method_17_code (4 : Nat) (Option.some Jvm.ClassFile.FieldType.int)) ∈ lw_all := lw_g (lw_at lw_m10 152 rfl) rfl
theorem q2381 : (Jvm.Cond.methodLink "CurtainRiggersModel" (91 : Nat) ({ cls := "CurtainRiggersModel", name := "barOf1", desc := "(I)I" } : Jvm.MethodName)) ∈ lw_all := lw_g (lw_at lw_m10 153 rfl) rfl
theorem q2382 : (Jvm.Cond.privateMethod ({ cls := "CurtainRiggersModel", name := "barOf1", desc := "(I)I" } : Jvm.MethodName)) ∈ lw_tbl := lw_at lw_m10 154 rfl
theorem q2383 : (Jvm.Cond.instanceMethod ({ cls := "CurtainRiggersModel", name := "barOf1", desc := "(I)I" } : Jvm.MethodName)) ∈ lw_all := lw_g (lw_at lw_m10 155 rfl) rfl
theorem q2384 : (Jvm.Cond.code ({ cls := "CurtainRiggersModel", name := "barOf1", desc := "(I)I" } : Jvm.MethodName) prog_21_method_16_code (2 : Nat) (Option.some Jvm.ClassFile.FieldType.int)) ∈ lw_all := lw_g (lw_at lw_m10 156 rfl) rfl
theorem q2385 : (Jvm.Cond.methodLink "CurtainRiggersModel" (95 : Nat) ({ cls := "CurtainRiggersModel", name := "weightOf", desc := "(I)I" } : Jvm.MethodName)) ∈ lw_all := lw_g (lw_at lw_m10 157 rfl) rfl
theorem q2386 : (Jvm.Cond.privateMethod ({ cls := "CurtainRiggersModel", name := "weightOf", desc := "(I)I" } : Jvm.MethodName)) ∈ lw_tbl := lw_at lw_m10 158 rfl
theorem q2387 : (Jvm.Cond.instanceMethod ({ cls := "CurtainRiggersModel", name := "weightOf", desc := "(I)I" } : Jvm.MethodName)) ∈ lw_all := lw_g (lw_at lw_m10 159 rfl) rfl
theorem q2388 : (Jvm.Cond.code ({ cls := "CurtainRiggersModel", name := "weightOf", desc := "(I)I" } : Jvm.MethodName) prog_21_method_15_code (2 : Nat) (Option.some Jvm.ClassFile.FieldType.int)) ∈ lw_all := lw_g (lw_at lw_m10 160 rfl) rfl
theorem q2389 : (Jvm.Cond.methodLink "CurtainRiggersModel" (133 : Nat) ({ cls := "CurtainRiggersModel", name := "off", desc := "(I)I" } : Jvm.MethodName)) ∈ lw_all := lw_g (lw_at lw_m10 161 rfl) rfl
theorem q2390 : (Jvm.Cond.privateMethod ({ cls := "CurtainRiggersModel", name := "off", desc := "(I)I" } : Jvm.MethodName)) ∈ lw_tbl := lw_at lw_m10 162 rfl
theorem q2391 : (Jvm.Cond.instanceMethod ({ cls := "CurtainRiggersModel", name := "off", desc := "(I)I" } : Jvm.MethodName)) ∈ lw_all := lw_g (lw_at lw_m10 163 rfl) rfl
theorem q2392 : (Jvm.Cond.code ({ cls := "CurtainRiggersModel", name := "off", desc := "(I)I" } : Jvm.MethodName) prog_21_method_19_code (2 : Nat) (Option.some Jvm.ClassFile.FieldType.int)) ∈ lw_all := lw_g (lw_at lw_m10 164 rfl) rfl
theorem q2393 : (Jvm.Cond.methodLink "CurtainRiggersModel" (105 : Nat) ({ cls := "java/lang/Math", name := "abs", desc := "(I)I" } : Jvm.MethodName)) ∈ lw_all := lw_g (lw_at lw_m10 165 rfl) rfl
theorem q2394 : (Jvm.Cond.methodLink "CurtainRiggersModel" (113 : Nat) ({ cls := "CurtainRiggersModel", name := "bears", desc := "(I)I" } : Jvm.MethodName)) ∈ lw_all := lw_g (lw_at lw_m10 166 rfl) rfl
theorem q2395 : (Jvm.Cond.privateMethod ({ cls := "CurtainRiggersModel", name := "bears", desc := "(I)I" } : Jvm.MethodName)) ∈ lw_tbl := lw_at lw_m10 167 rfl
theorem q2396 : (Jvm.Cond.instanceMethod ({ cls := "CurtainRiggersModel", name := "bears", desc := "(I)I" } : Jvm.MethodName)) ∈ lw_all := lw_g (lw_at lw_m10 168 rfl) rfl
theorem q2397 : (Jvm.Cond.code ({ cls := "CurtainRiggersModel", name := "bears", desc := "(I)I" } : Jvm.MethodName) prog_21_method_20_code (2 : Nat) (Option.some Jvm.ClassFile.FieldType.int)) ∈ lw_all := lw_g (lw_at lw_m10 169 rfl) rfl
theorem q2398 : (Jvm.Cond.methodLink "CurtainRiggersModel" (110 : Nat) ({ cls := "java/lang/Math", name := "max", desc := "(II)I" } : Jvm.MethodName)) ∈ lw_all := lw_g (lw_at lw_m10 170 rfl) rfl
theorem q2399 : (Jvm.Cond.methodLink "CurtainRiggersModel" (136 : Nat) ({ cls := "CurtainRiggersModel", name := "curtainsOn", desc := "(I)I" } : Jvm.MethodName)) ∈ lw_all := lw_g (lw_at lw_m10 171 rfl) rfl
theorem q2400 : (Jvm.Cond.privateMethod ({ cls := "CurtainRiggersModel", name := "curtainsOn", desc := "(I)I" } : Jvm.MethodName)) ∈ lw_tbl := lw_at lw_m10 172 rfl
theorem q2401 : (Jvm.Cond.instanceMethod ({ cls := "CurtainRiggersModel", name := "curtainsOn", desc := "(I)I" } : Jvm.MethodName)) ∈ lw_all := lw_g (lw_at lw_m10 173 rfl) rfl
theorem q2402 : (Jvm.Cond.code ({ cls := "CurtainRiggersModel", name := "curtainsOn", desc := "(I)I" } : Jvm.MethodName) prog_21_method_18_code (4 : Nat) (Option.some Jvm.ClassFile.FieldType.int)) ∈ lw_all := lw_g (lw_at lw_m10 174 rfl) rfl
theorem q2404 : (Jvm.Cond.instanceMethod ({ cls := "CurtainRiggersModel", name := "rope", desc := "(I)I" } : Jvm.MethodName)) ∈ lw_all := lw_g (lw_at lw_m10 176 rfl) rfl
theorem q2405 : (Jvm.Cond.selects "CurtainRiggersModel" ({ cls := "CurtainRiggersModel", name := "rope", desc := "(I)I" } : Jvm.MethodName) ({ cls := "CurtainRiggersModel", name := "rope", desc := "(I)I" } : Jvm.MethodName)) ∈ lw_all := lw_g (lw_at lw_m10 177 rfl) rfl
theorem q2406 : (Jvm.Cond.code ({ cls := "CurtainRiggersModel", name := "rope", desc := "(I)I" } : Jvm.MethodName) prog_21_method_25_code (3 : Nat) (Option.some Jvm.ClassFile.FieldType.int)) ∈ lw_all := lw_g (lw_at lw_m10 178 rfl) rfl
theorem q2407 : (Jvm.Cond.methodLink "CurtainRiggersModel" (139 : Nat) ({ cls := "CurtainRiggersModel", name := "refuse", desc := "(III)I" } : Jvm.MethodName)) ∈ lw_all := lw_g (lw_at lw_m10 179 rfl) rfl
theorem q2408 : (Jvm.Cond.privateMethod ({ cls := "CurtainRiggersModel", name := "refuse", desc := "(III)I" } : Jvm.MethodName)) ∈ lw_tbl := lw_at lw_m10 180 rfl
theorem q2409 : (Jvm.Cond.instanceMethod ({ cls := "CurtainRiggersModel", name := "refuse", desc := "(III)I" } : Jvm.MethodName)) ∈ lw_all := lw_g (lw_at lw_m10 181 rfl) rfl
theorem q2410 : (Jvm.Cond.code ({ cls := "CurtainRiggersModel", name := "refuse", desc := "(III)I" } : Jvm.MethodName) prog_21_method_8_code (4 : Nat) (Option.some Jvm.ClassFile.FieldType.int)) ∈ lw_all := lw_g (lw_at lw_m10 182 rfl) rfl
theorem q2412 : (Jvm.Cond.instanceMethod ({ cls := "CurtainRiggersModel", name := "year", desc := "(I)I" } : Jvm.MethodName)) ∈ lw_all := lw_g (lw_at lw_m10 184 rfl) rfl
theorem q2413 : (Jvm.Cond.selects "CurtainRiggersModel" ({ cls := "CurtainRiggersModel", name := "year", desc := "(I)I" } : Jvm.MethodName) ({ cls := "CurtainRiggersModel", name := "year", desc := "(I)I" } : Jvm.MethodName)) ∈ lw_all := lw_g (lw_at lw_m10 185 rfl) rfl
theorem q2414 : (Jvm.Cond.code ({ cls := "CurtainRiggersModel", name := "year", desc := "(I)I" } : Jvm.MethodName) prog_21_method_27_code (2 : Nat) (Option.some Jvm.ClassFile.FieldType.int)) ∈ lw_all := lw_g (lw_at lw_m10 186 rfl) rfl
theorem q2415 : (Jvm.Cond.methodLink "CurtainRiggersModel" (146 : Nat) ({ cls := "CurtainRiggersModel", name := "doYear", desc := "(I)I" } : Jvm.MethodName)) ∈ lw_all := lw_g (lw_at lw_m10 187 rfl) rfl
theorem q2416 : (Jvm.Cond.privateMethod ({ cls := "CurtainRiggersModel", name := "doYear", desc := "(I)I" } : Jvm.MethodName)) ∈ lw_tbl := lw_at lw_m10 188 rfl
theorem q2417 : (Jvm.Cond.instanceMethod ({ cls := "CurtainRiggersModel", name := "doYear", desc := "(I)I" } : Jvm.MethodName)) ∈ lw_all := lw_g (lw_at lw_m10 189 rfl) rfl
theorem q2418 : (Jvm.Cond.code ({ cls := "CurtainRiggersModel", name := "doYear", desc := "(I)I" } : Jvm.MethodName) prog_21_method_26_code (4 : Nat) (Option.some Jvm.ClassFile.FieldType.int)) ∈ lw_all := lw_g (lw_at lw_m10 190 rfl) rfl
theorem q2419 : (Jvm.Cond.methodLink "CurtainRiggersModel" (143 : Nat) ({ cls := "CurtainRiggersModel", name := "lacks", desc := "(I)I" } : Jvm.MethodName)) ∈ lw_all := lw_g (lw_at lw_m10 191 rfl) rfl
theorem q2420 : (Jvm.Cond.privateMethod ({ cls := "CurtainRiggersModel", name := "lacks", desc := "(I)I" } : Jvm.MethodName)) ∈ lw_tbl := lw_at lw_m10 192 rfl
theorem q2421 : (Jvm.Cond.instanceMethod ({ cls := "CurtainRiggersModel", name := "lacks", desc := "(I)I" } : Jvm.MethodName)) ∈ lw_all := lw_g (lw_at lw_m10 193 rfl) rfl
theorem q2422 : (Jvm.Cond.code ({ cls := "CurtainRiggersModel", name := "lacks", desc := "(I)I" } : Jvm.MethodName) prog_21_method_21_code (2 : Nat) (Option.some Jvm.ClassFile.FieldType.int)) ∈ lw_all := lw_g (lw_at lw_m10 194 rfl) rfl
theorem q2424 : (Jvm.Cond.instanceMethod ({ cls := "CurtainRiggersModel", name := "curtain", desc := "(I)I" } : Jvm.MethodName)) ∈ lw_all := lw_g (lw_at lw_m10 196 rfl) rfl
theorem q2425 : (Jvm.Cond.selects "CurtainRiggersModel" ({ cls := "CurtainRiggersModel", name := "curtain", desc := "(I)I" } : Jvm.MethodName) ({ cls := "CurtainRiggersModel", name := "curtain", desc := "(I)I" } : Jvm.MethodName)) ∈ lw_all := lw_g (lw_at lw_m10 197 rfl) rfl
theorem q2426 : (Jvm.Cond.code ({ cls := "CurtainRiggersModel", name := "curtain", desc := "(I)I" } : Jvm.MethodName) prog_21_method_28_code (3 : Nat) (Option.some Jvm.ClassFile.FieldType.int)) ∈ lw_all := lw_g (lw_at lw_m10 198 rfl) rfl
theorem q2428 : (Jvm.Cond.instanceMethod ({ cls := "CurtainRiggersModel", name := "barOfCurtain", desc := "(I)I" } : Jvm.MethodName)) ∈ lw_all := lw_g (lw_at lw_m10 200 rfl) rfl
theorem q2429 : (Jvm.Cond.selects "CurtainRiggersModel" ({ cls := "CurtainRiggersModel", name := "barOfCurtain", desc := "(I)I" } : Jvm.MethodName) ({ cls := "CurtainRiggersModel", name := "barOfCurtain", desc := "(I)I" } : Jvm.MethodName)) ∈ lw_all := lw_g (lw_at lw_m10 201 rfl) rfl
theorem q2430 : (Jvm.Cond.code ({ cls := "CurtainRiggersModel", name := "barOfCurtain", desc := "(I)I" } : Jvm.MethodName) prog_21_method_29_code (2 : Nat) (Option.some Jvm.ClassFile.FieldType.int)) ∈ lw_all := lw_g (lw_at lw_m10 202 rfl) rfl
theorem q2431 : (Jvm.Cond.methodLink "CurtainRiggersModel" (149 : Nat) ({ cls := "CurtainRiggersModel", name := "isCurtain", desc := "(I)Z" } : Jvm.MethodName)) ∈ lw_all := lw_g (lw_at lw_m10 203 rfl) rfl
theorem q2432 : (Jvm.Cond.privateMethod ({ cls := "CurtainRiggersModel", name := "isCurtain", desc := "(I)Z" } : Jvm.MethodName)) ∈ lw_tbl := lw_at lw_m10 204 rfl
theorem q2433 : (Jvm.Cond.instanceMethod ({ cls := "CurtainRiggersModel", name := "isCurtain", desc := "(I)Z" } : Jvm.MethodName)) ∈ lw_all := lw_g (lw_at lw_m10 205 rfl) rfl
theorem q2434 : (Jvm.Cond.code ({ cls := "CurtainRiggersModel", name := "isCurtain", desc := "(I)Z" } : Jvm.MethodName) prog_21_method_14_code (2 : Nat) (Option.some Jvm.ClassFile.FieldType.boolean)) ∈ lw_all := lw_g (lw_at lw_m10 206 rfl) rfl
theorem q2436 : (Jvm.Cond.instanceMethod ({ cls := "CurtainRiggersModel", name := "curtainOn", desc := "(II)I" } : Jvm.MethodName)) ∈ lw_all := lw_g (lw_at lw_m10 208 rfl) rfl
theorem q2437 : (Jvm.Cond.selects "CurtainRiggersModel" ({ cls := "CurtainRiggersModel", name := "curtainOn", desc := "(II)I" } : Jvm.MethodName) ({ cls := "CurtainRiggersModel", name := "curtainOn", desc := "(II)I" } : Jvm.MethodName)) ∈ lw_all := lw_g (lw_at lw_m10 209 rfl) rfl
theorem q2438 : (Jvm.Cond.code ({ cls := "CurtainRiggersModel", name := "curtainOn", desc := "(II)I" } : Jvm.MethodName) prog_21_method_30_code (5 : Nat) (Option.some Jvm.ClassFile.FieldType.int)) ∈ lw_all := lw_g (lw_at lw_m10 210 rfl) rfl
theorem q2440 : (Jvm.Cond.instanceMethod ({ cls := "CurtainRiggersModel", name := "hang", desc := "(II)I" } : Jvm.MethodName)) ∈ lw_all := lw_g (lw_at lw_m10 212 rfl) rfl
theorem q2441 : (Jvm.Cond.selects "CurtainRiggersModel" ({ cls := "CurtainRiggersModel", name := "hang", desc := "(II)I" } : Jvm.MethodName) ({ cls := "CurtainRiggersModel", name := "hang", desc := "(II)I" } : Jvm.MethodName)) ∈ lw_all := lw_g (lw_at lw_m10 213 rfl) rfl
theorem q2442 : (Jvm.Cond.code ({ cls := "CurtainRiggersModel", name := "hang", desc := "(II)I" } : Jvm.MethodName) prog_21_method_32_code (3 : Nat) (Option.some Jvm.ClassFile.FieldType.int)) ∈ lw_all := lw_g (lw_at lw_m10 214 rfl) rfl
theorem q2443 : (Jvm.Cond.methodLink "CurtainRiggersModel" (152 : Nat) ({ cls := "CurtainRiggersModel", name := "doHang", desc := "(II)I" } : Jvm.MethodName)) ∈ lw_all := lw_g (lw_at lw_m10 215 rfl) rfl
theorem q2444 : (Jvm.Cond.privateMethod ({ cls := "CurtainRiggersModel", name := "doHang", desc := "(II)I" } : Jvm.MethodName)) ∈ lw_tbl := lw_at lw_m10 216 rfl
theorem q2445 : (Jvm.Cond.instanceMethod ({ cls := "CurtainRiggersModel", name := "doHang", desc := "(II)I" } : Jvm.MethodName)) ∈ lw_all := lw_g (lw_at lw_m10 217 rfl) rfl
theorem q2446 : (Jvm.Cond.code ({ cls := "CurtainRiggersModel", name := "doHang", desc := "(II)I" } : Jvm.MethodName) prog_21_method_31_code (3 : Nat) (Option.some Jvm.ClassFile.FieldType.int)) ∈ lw_all := lw_g (lw_at lw_m10 218 rfl) rfl
theorem q2448 : (Jvm.Cond.instanceMethod ({ cls := "CurtainRiggersModel", name := "drop", desc := "(I)I" } : Jvm.MethodName)) ∈ lw_all := lw_g (lw_at lw_m10 220 rfl) rfl
theorem q2449 : (Jvm.Cond.selects "CurtainRiggersModel" ({ cls := "CurtainRiggersModel", name := "drop", desc := "(I)I" } : Jvm.MethodName) ({ cls := "CurtainRiggersModel", name := "drop", desc := "(I)I" } : Jvm.MethodName)) ∈ lw_all := lw_g (lw_at lw_m10 221 rfl) rfl
theorem q2450 : (Jvm.Cond.code ({ cls := "CurtainRiggersModel", name := "drop", desc := "(I)I" } : Jvm.MethodName) prog_21_method_34_code (2 : Nat) (Option.some Jvm.ClassFile.FieldType.int)) ∈ lw_all := lw_g (lw_at lw_m10 222 rfl) rfl
theorem q2451 : (Jvm.Cond.methodLink "CurtainRiggersModel" (155 : Nat) ({ cls := "CurtainRiggersModel", name := "doDrop", desc := "(I)I" } : Jvm.MethodName)) ∈ lw_all := lw_g (lw_at lw_m10 223 rfl) rfl
theorem q2452 : (Jvm.Cond.privateMethod ({ cls := "CurtainRiggersModel", name := "doDrop", desc := "(I)I" } : Jvm.MethodName)) ∈ lw_tbl := lw_at lw_m10 224 rfl
theorem q2453 : (Jvm.Cond.instanceMethod ({ cls := "CurtainRiggersModel", name := "doDrop", desc := "(I)I" } : Jvm.MethodName)) ∈ lw_all := lw_g (lw_at lw_m10 225 rfl) rfl
theorem q2454 : (Jvm.Cond.code ({ cls := "CurtainRiggersModel", name := "doDrop", desc := "(I)I" } : Jvm.MethodName) prog_21_method_33_code (3 : Nat) (Option.some Jvm.ClassFile.FieldType.int)) ∈ lw_all := lw_g (lw_at lw_m10 226 rfl) rfl
theorem q2456 : (Jvm.Cond.instanceMethod ({ cls := "CurtainRiggersModel", name := "weights", desc := "(II)I" } : Jvm.MethodName)) ∈ lw_all := lw_g (lw_at lw_m10 228 rfl) rfl
theorem q2457 : (Jvm.Cond.selects "CurtainRiggersModel" ({ cls := "CurtainRiggersModel", name := "weights", desc := "(II)I" } : Jvm.MethodName) ({ cls := "CurtainRiggersModel", name := "weights", desc := "(II)I" } : Jvm.MethodName)) ∈ lw_all := lw_g (lw_at lw_m10 229 rfl) rfl
theorem q2458 : (Jvm.Cond.code ({ cls := "CurtainRiggersModel", name := "weights", desc := "(II)I" } : Jvm.MethodName) prog_21_method_37_code (3 : Nat) (Option.some Jvm.ClassFile.FieldType.int)) ∈ lw_all := lw_g (lw_at lw_m10 230 rfl) rfl
theorem q2459 : (Jvm.Cond.methodLink "CurtainRiggersModel" (162 : Nat) ({ cls := "CurtainRiggersModel", name := "doWeights", desc := "(II)I" } : Jvm.MethodName)) ∈ lw_all := lw_g (lw_at lw_m10 231 rfl) rfl
theorem q2460 : (Jvm.Cond.privateMethod ({ cls := "CurtainRiggersModel", name := "doWeights", desc := "(II)I" } : Jvm.MethodName)) ∈ lw_tbl := lw_at lw_m10 232 rfl
theorem q2461 : (Jvm.Cond.instanceMethod ({ cls := "CurtainRiggersModel", name := "doWeights", desc := "(II)I" } : Jvm.MethodName)) ∈ lw_all := lw_g (lw_at lw_m10 233 rfl) rfl
theorem q2462 : (Jvm.Cond.code ({ cls := "CurtainRiggersModel", name := "doWeights", desc := "(II)I" } : Jvm.MethodName) prog_21_method_36_code (5 : Nat) (Option.some Jvm.ClassFile.FieldType.int)) ∈ lw_all := lw_g (lw_at lw_m10 234 rfl) rfl
theorem q2463 : (Jvm.Cond.methodLink "CurtainRiggersModel" (158 : Nat) ({ cls := "CurtainRiggersModel", name := "onBars", desc := "()I" } : Jvm.MethodName)) ∈ lw_all := lw_g (lw_at lw_m10 235 rfl) rfl
theorem q2464 : (Jvm.Cond.privateMethod ({ cls := "CurtainRiggersModel", name := "onBars", desc := "()I" } : Jvm.MethodName)) ∈ lw_tbl := lw_at lw_m10 236 rfl
theorem q2465 : (Jvm.Cond.instanceMethod ({ cls := "CurtainRiggersModel", name := "onBars", desc := "()I" } : Jvm.MethodName)) ∈ lw_all := lw_g (lw_at lw_m10 237 rfl) rfl
theorem q2466 : (Jvm.Cond.code ({ cls := "CurtainRiggersModel", name := "onBars", desc := "()I" } : Jvm.MethodName) prog_21_method_35_code (3 : Nat) (Option.some Jvm.ClassFile.FieldType.int)) ∈ lw_all := lw_g (lw_at lw_m10 238 rfl) rfl
theorem q2468 : (Jvm.Cond.instanceMethod ({ cls := "CurtainRiggersModel", name := "bestWeights", desc := "(I)I" } : Jvm.MethodName)) ∈ lw_all := lw_g (lw_at lw_m11 0 rfl) rfl
theorem q2469 : (Jvm.Cond.selects "CurtainRiggersModel" ({ cls := "CurtainRiggersModel", name := "bestWeights", desc := "(I)I" } : Jvm.MethodName) ({ cls := "CurtainRiggersModel", name := "bestWeights", desc := "(I)I" } : Jvm.MethodName)) ∈ lw_all := lw_g (lw_at lw_m11 1 rfl) rfl
theorem q2470 : (Jvm.Cond.code ({ cls := "CurtainRiggersModel", name := "bestWeights", desc := "(I)I" } : Jvm.MethodName) prog_21_method_38_code (4 : Nat) (Option.some Jvm.ClassFile.FieldType.int)) ∈ lw_all := lw_g (lw_at lw_m11 2 rfl) rfl
theorem q2472 : (Jvm.Cond.instanceMethod ({ cls := "CurtainRiggersModel", name := "bestBar", desc := "(I)I" } : Jvm.MethodName)) ∈ lw_all := lw_g (lw_at lw_m11 4 rfl) rfl
theorem q2473 : (Jvm.Cond.selects "CurtainRiggersModel" ({ cls := "CurtainRiggersModel", name := "bestBar", desc := "(I)I" } : Jvm.MethodName) ({ cls := "CurtainRiggersModel", name := "bestBar", desc := "(I)I" } : Jvm.MethodName)) ∈ lw_all := lw_g (lw_at lw_m11 5 rfl) rfl
theorem q2474 : (Jvm.Cond.code ({ cls := "CurtainRiggersModel", name := "bestBar", desc := "(I)I" } : Jvm.MethodName) prog_21_method_40_code (5 : Nat) (Option.some Jvm.ClassFile.FieldType.int)) ∈ lw_all := lw_g (lw_at lw_m11 6 rfl) rfl
theorem q2475 : (Jvm.Cond.methodLink "CurtainRiggersModel" (165 : Nat) ({ cls := "CurtainRiggersModel", name := "offWith", desc := "(II)I" } : Jvm.MethodName)) ∈ lw_all := lw_g (lw_at lw_m11 7 rfl) rfl
theorem q2476 : (Jvm.Cond.privateMethod ({ cls := "CurtainRiggersModel", name := "offWith", desc := "(II)I" } : Jvm.MethodName)) ∈ lw_tbl := lw_at lw_m11 8 rfl
theorem q2477 : (Jvm.Cond.instanceMethod ({ cls := "CurtainRiggersModel", name := "offWith", desc := "(II)I" } : Jvm.MethodName)) ∈ lw_all := lw_g (lw_at lw_m11 9 rfl) rfl
theorem q2478 : (Jvm.Cond.code ({ cls := "CurtainRiggersModel", name := "offWith", desc := "(II)I" } : Jvm.MethodName) prog_21_method_39_code (4 : Nat) (Option.some Jvm.ClassFile.FieldType.int)) ∈ lw_all := lw_g (lw_at lw_m11 10 rfl) rfl
theorem q2480 : (Jvm.Cond.instanceMethod ({ cls := "CurtainRiggersModel", name := "bestAgain", desc := "(I)I" } : Jvm.MethodName)) ∈ lw_all := lw_g (lw_at lw_m11 12 rfl) rfl
theorem q2481 : (Jvm.Cond.selects "CurtainRiggersModel" ({ cls := "CurtainRiggersModel", name := "bestAgain", desc := "(I)I" } : Jvm.MethodName) ({ cls := "CurtainRiggersModel", name := "bestAgain", desc := "(I)I" } : Jvm.MethodName)) ∈ lw_all := lw_g (lw_at lw_m11 13 rfl) rfl
theorem q2482 : (Jvm.Cond.code ({ cls := "CurtainRiggersModel", name := "bestAgain", desc := "(I)I" } : Jvm.MethodName) prog_21_method_41_code (2 : Nat) (Option.some Jvm.ClassFile.FieldType.int)) ∈ lw_all := lw_g (lw_at lw_m11 14 rfl) rfl
theorem q2483 : (Jvm.Cond.methodLink "CurtainRiggersModel" (168 : Nat) ({ cls := "CurtainRiggersModel", name := "bestBar", desc := "(I)I" } : Jvm.MethodName)) ∈ lw_all := lw_g (lw_at lw_m11 15 rfl) rfl
theorem q2485 : (Jvm.Cond.instanceMethod ({ cls := "CurtainRiggersModel", name := "hand", desc := "(II)I" } : Jvm.MethodName)) ∈ lw_all := lw_g (lw_at lw_m11 17 rfl) rfl
theorem q2486 : (Jvm.Cond.selects "CurtainRiggersModel" ({ cls := "CurtainRiggersModel", name := "hand", desc := "(II)I" } : Jvm.MethodName) ({ cls := "CurtainRiggersModel", name := "hand", desc := "(II)I" } : Jvm.MethodName)) ∈ lw_all := lw_g (lw_at lw_m11 18 rfl) rfl
theorem q2487 : (Jvm.Cond.code ({ cls := "CurtainRiggersModel", name := "hand", desc := "(II)I" } : Jvm.MethodName) prog_21_method_42_code (4 : Nat) (Option.some Jvm.ClassFile.FieldType.int)) ∈ lw_all := lw_g (lw_at lw_m11 19 rfl) rfl
theorem q2489 : (Jvm.Cond.instanceMethod ({ cls := "CurtainRiggersModel", name := "move", desc := "(II)I" } : Jvm.MethodName)) ∈ lw_all := lw_g (lw_at lw_m11 21 rfl) rfl
theorem q2490 : (Jvm.Cond.selects "CurtainRiggersModel" ({ cls := "CurtainRiggersModel", name := "move", desc := "(II)I" } : Jvm.MethodName) ({ cls := "CurtainRiggersModel", name := "move", desc := "(II)I" } : Jvm.MethodName)) ∈ lw_all := lw_g (lw_at lw_m11 22 rfl) rfl
theorem q2491 : (Jvm.Cond.code ({ cls := "CurtainRiggersModel", name := "move", desc := "(II)I" } : Jvm.MethodName) prog_21_method_44_code (3 : Nat) (Option.some Jvm.ClassFile.FieldType.int)) ∈ lw_all := lw_g (lw_at lw_m11 23 rfl) rfl
theorem q2492 : (Jvm.Cond.methodLink "CurtainRiggersModel" (171 : Nat) ({ cls := "CurtainRiggersModel", name := "strengthOf", desc := "(I)I" } : Jvm.MethodName)) ∈ lw_all := lw_g (lw_at lw_m11 24 rfl) rfl
theorem q2493 : (Jvm.Cond.privateMethod ({ cls := "CurtainRiggersModel", name := "strengthOf", desc := "(I)I" } : Jvm.MethodName)) ∈ lw_tbl := lw_at lw_m11 25 rfl
theorem q2494 : (Jvm.Cond.instanceMethod ({ cls := "CurtainRiggersModel", name := "strengthOf", desc := "(I)I" } : Jvm.MethodName)) ∈ lw_all := lw_g (lw_at lw_m11 26 rfl) rfl
theorem q2495 : (Jvm.Cond.code ({ cls := "CurtainRiggersModel", name := "strengthOf", desc := "(I)I" } : Jvm.MethodName) prog_21_method_43_code (4 : Nat) (Option.some Jvm.ClassFile.FieldType.int)) ∈ lw_all := lw_g (lw_at lw_m11 27 rfl) rfl
theorem q2497 : (Jvm.Cond.instanceMethod ({ cls := "CurtainRiggersModel", name := "strength", desc := "(I)I" } : Jvm.MethodName)) ∈ lw_all := lw_g (lw_at lw_m11 29 rfl) rfl
theorem q2498 : (Jvm.Cond.selects "CurtainRiggersModel" ({ cls := "CurtainRiggersModel", name := "strength", desc := "(I)I" } : Jvm.MethodName) ({ cls := "CurtainRiggersModel", name := "strength", desc := "(I)I" } : Jvm.MethodName)) ∈ lw_all := lw_g (lw_at lw_m11 30 rfl) rfl
theorem q2499 : (Jvm.Cond.code ({ cls := "CurtainRiggersModel", name := "strength", desc := "(I)I" } : Jvm.MethodName) prog_21_method_45_code (2 : Nat) (Option.some Jvm.ClassFile.FieldType.int)) ∈ lw_all := lw_g (lw_at lw_m11 31 rfl) rfl
theorem q2501 : (Jvm.Cond.instanceMethod ({ cls := "CurtainRiggersModel", name := "door", desc := "(IZ)I" } : Jvm.MethodName)) ∈ lw_all := lw_g (lw_at lw_m11 33 rfl) rfl
theorem q2502 : (Jvm.Cond.selects "CurtainRiggersModel" ({ cls := "CurtainRiggersModel", name := "door", desc := "(IZ)I" } : Jvm.MethodName) ({ cls := "CurtainRiggersModel", name := "door", desc := "(IZ)I" } : Jvm.MethodName)) ∈ lw_all := lw_g (lw_at lw_m11 34 rfl) rfl
theorem q2503 : (Jvm.Cond.code ({ cls := "CurtainRiggersModel", name := "door", desc := "(IZ)I" } : Jvm.MethodName) prog_21_method_48_code (3 : Nat) (Option.some Jvm.ClassFile.FieldType.int)) ∈ lw_all := lw_g (lw_at lw_m11 35 rfl) rfl
theorem q2504 : (Jvm.Cond.methodLink "CurtainRiggersModel" (177 : Nat) ({ cls := "CurtainRiggersModel", name := "doDoor", desc := "(IZ)I" } : Jvm.MethodName)) ∈ lw_all := lw_g (lw_at lw_m11 36 rfl) rfl
theorem q2505 : (Jvm.Cond.privateMethod ({ cls := "CurtainRiggersModel", name := "doDoor", desc := "(IZ)I" } : Jvm.MethodName)) ∈ lw_tbl := lw_at lw_m11 37 rfl
theorem q2506 : (Jvm.Cond.instanceMethod ({ cls := "CurtainRiggersModel", name := "doDoor", desc := "(IZ)I" } : Jvm.MethodName)) ∈ lw_all := lw_g (lw_at lw_m11 38 rfl) rfl
theorem q2507 : (Jvm.Cond.code ({ cls := "CurtainRiggersModel", name := "doDoor", desc := "(IZ)I" } : Jvm.MethodName) prog_21_method_47_code (3 : Nat) (Option.some Jvm.ClassFile.FieldType.int)) ∈ lw_all := lw_g (lw_at lw_m11 39 rfl) rfl
theorem q2508 : (Jvm.Cond.methodLink "CurtainRiggersModel" (174 : Nat) ({ cls := "CurtainRiggersModel", name := "openDoors", desc := "()I" } : Jvm.MethodName)) ∈ lw_all := lw_g (lw_at lw_m11 40 rfl) rfl
theorem q2509 : (Jvm.Cond.privateMethod ({ cls := "CurtainRiggersModel", name := "openDoors", desc := "()I" } : Jvm.MethodName)) ∈ lw_tbl := lw_at lw_m11 41 rfl
theorem q2510 : (Jvm.Cond.instanceMethod ({ cls := "CurtainRiggersModel", name := "openDoors", desc := "()I" } : Jvm.MethodName)) ∈ lw_all := lw_g (lw_at lw_m11 42 rfl) rfl
theorem q2511 : (Jvm.Cond.code ({ cls := "CurtainRiggersModel", name := "openDoors", desc := "()I" } : Jvm.MethodName) prog_21_method_46_code (3 : Nat) (Option.some Jvm.ClassFile.FieldType.int)) ∈ lw_all := lw_g (lw_at lw_m11 43 rfl) rfl
theorem q2513 : (Jvm.Cond.instanceMethod ({ cls := "CurtainRiggersModel", name := "noise", desc := "(IIZ)I" } : Jvm.MethodName)) ∈ lw_all := lw_g (lw_at lw_m11 45 rfl) rfl
theorem q2514 : (Jvm.Cond.selects "CurtainRiggersModel" ({ cls := "CurtainRiggersModel", name := "noise", desc := "(IIZ)I" } : Jvm.MethodName) ({ cls := "CurtainRiggersModel", name := "noise", desc := "(IIZ)I" } : Jvm.MethodName)) ∈ lw_all := lw_g (lw_at lw_m11 46 rfl) rfl
theorem q2515 : (Jvm.Cond.code ({ cls := "CurtainRiggersModel", name := "noise", desc := "(IIZ)I" } : Jvm.MethodName) prog_21_method_50_code (4 : Nat) (Option.some Jvm.ClassFile.FieldType.int)) ∈ lw_all := lw_g (lw_at lw_m11 47 rfl) rfl
theorem q2516 : (Jvm.Cond.methodLink "CurtainRiggersModel" (181 : Nat) ({ cls := "CurtainRiggersModel", name := "loud", desc := "(II)I" } : Jvm.MethodName)) ∈ lw_all := lw_g (lw_at lw_m11 48 rfl) rfl
theorem q2517 : (Jvm.Cond.privateMethod ({ cls := "CurtainRiggersModel", name := "loud", desc := "(II)I" } : Jvm.MethodName)) ∈ lw_tbl := lw_at lw_m11 49 rfl
theorem q2518 : (Jvm.Cond.instanceMethod ({ cls := "CurtainRiggersModel", name := "loud", desc := "(II)I" } : Jvm.MethodName)) ∈ lw_all := lw_g (lw_at lw_m11 50 rfl) rfl
theorem q2519 : (Jvm.Cond.code ({ cls := "CurtainRiggersModel", name := "loud", desc := "(II)I" } : Jvm.MethodName) prog_21_method_49_code (3 : Nat) (Option.some Jvm.ClassFile.FieldType.int)) ∈ lw_all := lw_g (lw_at lw_m11 51 rfl) rfl
theorem q2521 : (Jvm.Cond.instanceMethod ({ cls := "CurtainRiggersModel", name := "fly", desc := "(II)I" } : Jvm.MethodName)) ∈ lw_all := lw_g (lw_at lw_m11 53 rfl) rfl
theorem q2522 : (Jvm.Cond.selects "CurtainRiggersModel" ({ cls := "CurtainRiggersModel", name := "fly", desc := "(II)I" } : Jvm.MethodName) ({ cls := "CurtainRiggersModel", name := "fly", desc := "(II)I" } : Jvm.MethodName)) ∈ lw_all := lw_g (lw_at lw_m11 54 rfl) rfl
theorem q2523 : (Jvm.Cond.code ({ cls := "CurtainRiggersModel", name := "fly", desc := "(II)I" } : Jvm.MethodName) prog_21_method_55_code (3 : Nat) (Option.some Jvm.ClassFile.FieldType.int)) ∈ lw_all := lw_g (lw_at lw_m11 55 rfl) rfl
theorem q2524 : (Jvm.Cond.methodLink "CurtainRiggersModel" (194 : Nat) ({ cls := "CurtainRiggersModel", name := "doFly", desc := "(II)I" } : Jvm.MethodName)) ∈ lw_all := lw_g (lw_at lw_m11 56 rfl) rfl
theorem q2525 : (Jvm.Cond.privateMethod ({ cls := "CurtainRiggersModel", name := "doFly", desc := "(II)I" } : Jvm.MethodName)) ∈ lw_tbl := lw_at lw_m11 57 rfl
theorem q2526 : (Jvm.Cond.instanceMethod ({ cls := "CurtainRiggersModel", name := "doFly", desc := "(II)I" } : Jvm.MethodName)) ∈ lw_all := lw_g (lw_at lw_m11 58 rfl) rfl
theorem q2527 : (Jvm.Cond.code ({ cls := "CurtainRiggersModel", name := "doFly", desc := "(II)I" } : Jvm.MethodName) prog_21_method_54_code (3 : Nat) (Option.some Jvm.ClassFile.FieldType.int)) ∈ lw_all := lw_g (lw_at lw_m11 59 rfl) rfl
theorem q2528 : (Jvm.Cond.methodLink "CurtainRiggersModel" (187 : Nat) ({ cls := "CurtainRiggersModel", name := "isRefused", desc := "(II)Z" } : Jvm.MethodName)) ∈ lw_all := lw_g (lw_at lw_m11 60 rfl) rfl
theorem q2529 : (Jvm.Cond.privateMethod ({ cls := "CurtainRiggersModel", name := "isRefused", desc := "(II)Z" } : Jvm.MethodName)) ∈ lw_tbl := lw_at lw_m11 61 rfl
theorem q2530 : (Jvm.Cond.instanceMethod ({ cls := "CurtainRiggersModel", name := "isRefused", desc := "(II)Z" } : Jvm.MethodName)) ∈ lw_all := lw_g (lw_at lw_m11 62 rfl) rfl
theorem q2531 : (Jvm.Cond.code ({ cls := "CurtainRiggersModel", name := "isRefused", desc := "(II)Z" } : Jvm.MethodName) prog_21_method_52_code (5 : Nat) (Option.some Jvm.ClassFile.FieldType.boolean)) ∈ lw_all := lw_g (lw_at lw_m11 63 rfl) rfl
theorem q2532 : (Jvm.Cond.methodLink "CurtainRiggersModel" (184 : Nat) ({ cls := "CurtainRiggersModel", name := "whyNot", desc := "(I)I" } : Jvm.MethodName)) ∈ lw_all := lw_g (lw_at lw_m11 64 rfl) rfl
theorem q2533 : (Jvm.Cond.privateMethod ({ cls := "CurtainRiggersModel", name := "whyNot", desc := "(I)I" } : Jvm.MethodName)) ∈ lw_tbl := lw_at lw_m11 65 rfl
theorem q2534 : (Jvm.Cond.instanceMethod ({ cls := "CurtainRiggersModel", name := "whyNot", desc := "(I)I" } : Jvm.MethodName)) ∈ lw_all := lw_g (lw_at lw_m11 66 rfl) rfl
theorem q2535 : (Jvm.Cond.code ({ cls := "CurtainRiggersModel", name := "whyNot", desc := "(I)I" } : Jvm.MethodName) prog_21_method_51_code (2 : Nat) (Option.some Jvm.ClassFile.FieldType.int)) ∈ lw_all := lw_g (lw_at lw_m11 67 rfl) rfl
theorem q2536 : (Jvm.Cond.methodLink "CurtainRiggersModel" (191 : Nat) ({ cls := "CurtainRiggersModel", name := "flies", desc := "(II)I" } : Jvm.MethodName)) ∈ lw_all := lw_g (lw_at lw_m11 68 rfl) rfl
theorem q2537 : (Jvm.Cond.privateMethod ({ cls := "CurtainRiggersModel", name := "flies", desc := "(II)I" } : Jvm.MethodName)) ∈ lw_tbl := lw_at lw_m11 69 rfl
theorem q2538 : (Jvm.Cond.instanceMethod ({ cls := "CurtainRiggersModel", name := "flies", desc := "(II)I" } : Jvm.MethodName)) ∈ lw_all := lw_g (lw_at lw_m11 70 rfl) rfl
theorem q2539 : (Jvm.Cond.code ({ cls := "CurtainRiggersModel", name := "flies", desc := "(II)I" } : Jvm.MethodName) prog_21_method_53_code (5 : Nat) (Option.some Jvm.ClassFile.FieldType.int)) ∈ lw_all := lw_g (lw_at lw_m11 71 rfl) rfl
theorem q2541 : (Jvm.Cond.instanceMethod ({ cls := "CurtainRiggersModel", name := "wouldRefuse", desc := "(I)I" } : Jvm.MethodName)) ∈ lw_all := lw_g (lw_at lw_m11 73 rfl) rfl
theorem q2542 : (Jvm.Cond.selects "CurtainRiggersModel" ({ cls := "CurtainRiggersModel", name := "wouldRefuse", desc := "(I)I" } : Jvm.MethodName) ({ cls := "CurtainRiggersModel", name := "wouldRefuse", desc := "(I)I" } : Jvm.MethodName)) ∈ lw_all := lw_g (lw_at lw_m11 74 rfl) rfl
theorem q2543 : (Jvm.Cond.code ({ cls := "CurtainRiggersModel", name := "wouldRefuse", desc := "(I)I" } : Jvm.MethodName) prog_21_method_56_code (2 : Nat) (Option.some Jvm.ClassFile.FieldType.int)) ∈ lw_all := lw_g (lw_at lw_m11 75 rfl) rfl
theorem q2545 : (Jvm.Cond.instanceMethod ({ cls := "CurtainRiggersModel", name := "cue", desc := "(IIII)I" } : Jvm.MethodName)) ∈ lw_all := lw_g (lw_at lw_m11 77 rfl) rfl
theorem q2546 : (Jvm.Cond.selects "CurtainRiggersModel" ({ cls := "CurtainRiggersModel", name := "cue", desc := "(IIII)I" } : Jvm.MethodName) ({ cls := "CurtainRiggersModel", name := "cue", desc := "(IIII)I" } : Jvm.MethodName)) ∈ lw_all := lw_g (lw_at lw_m11 78 rfl) rfl
theorem q2547 : (Jvm.Cond.code ({ cls := "CurtainRiggersModel", name := "cue", desc := "(IIII)I" } : Jvm.MethodName) prog_21_method_58_code (9 : Nat) (Option.some Jvm.ClassFile.FieldType.int)) ∈ lw_all := lw_g (lw_at lw_m11 79 rfl) rfl
theorem q2548 : (Jvm.Cond.methodLink "CurtainRiggersModel" (197 : Nat) ({ cls := "CurtainRiggersModel", name := "cue1", desc := "(II)I" } : Jvm.MethodName)) ∈ lw_all := lw_g (lw_at lw_m11 80 rfl) rfl
theorem q2549 : (Jvm.Cond.privateMethod ({ cls := "CurtainRiggersModel", name := "cue1", desc := "(II)I" } : Jvm.MethodName)) ∈ lw_tbl := lw_at lw_m11 81 rfl
theorem q2550 : (Jvm.Cond.instanceMethod ({ cls := "CurtainRiggersModel", name := "cue1", desc := "(II)I" } : Jvm.MethodName)) ∈ lw_all := lw_g (lw_at lw_m11 82 rfl) rfl
theorem q2551 : (Jvm.Cond.code ({ cls := "CurtainRiggersModel", name := "cue1", desc := "(II)I" } : Jvm.MethodName) prog_21_method_57_code (3 : Nat) (Option.some Jvm.ClassFile.FieldType.int)) ∈ lw_all := lw_g (lw_at lw_m11 83 rfl) rfl
theorem q2553 : (Jvm.Cond.instanceMethod ({ cls := "CurtainRiggersModel", name := "cueOf", desc := "(II)I" } : Jvm.MethodName)) ∈ lw_all := lw_g (lw_at lw_m11 85 rfl) rfl
theorem q2554 : (Jvm.Cond.selects "CurtainRiggersModel" ({ cls := "CurtainRiggersModel", name := "cueOf", desc := "(II)I" } : Jvm.MethodName) ({ cls := "CurtainRiggersModel", name := "cueOf", desc := "(II)I" } : Jvm.MethodName)) ∈ lw_all := lw_g (lw_at lw_m11 86 rfl) rfl
theorem q2555 : (Jvm.Cond.code ({ cls := "CurtainRiggersModel", name := "cueOf", desc := "(II)I" } : Jvm.MethodName) prog_21_method_59_code (3 : Nat) (Option.some Jvm.ClassFile.FieldType.int)) ∈ lw_all := lw_g (lw_at lw_m11 87 rfl) rfl
theorem q2557 : (Jvm.Cond.instanceMethod ({ cls := "CurtainRiggersModel", name := "nextLight", desc := "()I" } : Jvm.MethodName)) ∈ lw_all := lw_g (lw_at lw_m11 89 rfl) rfl
theorem q2558 : (Jvm.Cond.selects "CurtainRiggersModel" ({ cls := "CurtainRiggersModel", name := "nextLight", desc := "()I" } : Jvm.MethodName) ({ cls := "CurtainRiggersModel", name := "nextLight", desc := "()I" } : Jvm.MethodName)) ∈ lw_all := lw_g (lw_at lw_m11 90 rfl) rfl
theorem q2559 : (Jvm.Cond.code ({ cls := "CurtainRiggersModel", name := "nextLight", desc := "()I" } : Jvm.MethodName) prog_21_method_61_code (2 : Nat) (Option.some Jvm.ClassFile.FieldType.int)) ∈ lw_all := lw_g (lw_at lw_m11 91 rfl) rfl
theorem q2560 : (Jvm.Cond.methodLink "CurtainRiggersModel" (200 : Nat) ({ cls := "CurtainRiggersModel", name := "next", desc := "()I" } : Jvm.MethodName)) ∈ lw_all := lw_g (lw_at lw_m11 92 rfl) rfl
theorem q2561 : (Jvm.Cond.privateMethod ({ cls := "CurtainRiggersModel", name := "next", desc := "()I" } : Jvm.MethodName)) ∈ lw_tbl := lw_at lw_m11 93 rfl
theorem q2562 : (Jvm.Cond.instanceMethod ({ cls := "CurtainRiggersModel", name := "next", desc := "()I" } : Jvm.MethodName)) ∈ lw_all := lw_g (lw_at lw_m11 94 rfl) rfl
theorem q2563 : (Jvm.Cond.code ({ cls := "CurtainRiggersModel", name := "next", desc := "()I" } : Jvm.MethodName) prog_21_method_60_code (2 : Nat) (Option.some Jvm.ClassFile.FieldType.int)) ∈ lw_all := lw_g (lw_at lw_m11 95 rfl) rfl
theorem q2565 : (Jvm.Cond.instanceMethod ({ cls := "CurtainRiggersModel", name := "go", desc := "()I" } : Jvm.MethodName)) ∈ lw_all := lw_g (lw_at lw_m11 97 rfl) rfl
theorem q2566 : (Jvm.Cond.selects "CurtainRiggersModel" ({ cls := "CurtainRiggersModel", name := "go", desc := "()I" } : Jvm.MethodName) ({ cls := "CurtainRiggersModel", name := "go", desc := "()I" } : Jvm.MethodName)) ∈ lw_all := lw_g (lw_at lw_m11 98 rfl) rfl
theorem q2567 : (Jvm.Cond.code ({ cls := "CurtainRiggersModel", name := "go", desc := "()I" } : Jvm.MethodName) prog_21_method_63_code (1 : Nat) (Option.some Jvm.ClassFile.FieldType.int)) ∈ lw_all := lw_g (lw_at lw_m11 99 rfl) rfl
theorem q2568 : (Jvm.Cond.methodLink "CurtainRiggersModel" (203 : Nat) ({ cls := "CurtainRiggersModel", name := "doGo", desc := "()I" } : Jvm.MethodName)) ∈ lw_all := lw_g (lw_at lw_m11 100 rfl) rfl
theorem q2569 : (Jvm.Cond.privateMethod ({ cls := "CurtainRiggersModel", name := "doGo", desc := "()I" } : Jvm.MethodName)) ∈ lw_tbl := lw_at lw_m11 101 rfl
theorem q2570 : (Jvm.Cond.instanceMethod ({ cls := "CurtainRiggersModel", name := "doGo", desc := "()I" } : Jvm.MethodName)) ∈ lw_all := lw_g (lw_at lw_m11 102 rfl) rfl
theorem q2571 : (Jvm.Cond.code ({ cls := "CurtainRiggersModel", name := "doGo", desc := "()I" } : Jvm.MethodName) prog_21_method_62_code (5 : Nat) (Option.some Jvm.ClassFile.FieldType.int)) ∈ lw_all := lw_g (lw_at lw_m11 103 rfl) rfl
theorem q2573 : (Jvm.Cond.instanceMethod ({ cls := "CurtainRiggersModel", name := "playable", desc := "()I" } : Jvm.MethodName)) ∈ lw_all := lw_g (lw_at lw_m11 105 rfl) rfl
theorem q2574 : (Jvm.Cond.selects "CurtainRiggersModel" ({ cls := "CurtainRiggersModel", name := "playable", desc := "()I" } : Jvm.MethodName) ({ cls := "CurtainRiggersModel", name := "playable", desc := "()I" } : Jvm.MethodName)) ∈ lw_all := lw_g (lw_at lw_m11 106 rfl) rfl
theorem q2575 : (Jvm.Cond.code ({ cls := "CurtainRiggersModel", name := "playable", desc := "()I" } : Jvm.MethodName) prog_21_method_64_code (5 : Nat) (Option.some Jvm.ClassFile.FieldType.int)) ∈ lw_all := lw_g (lw_at lw_m11 107 rfl) rfl
theorem q2577 : (Jvm.Cond.instanceMethod ({ cls := "CurtainRiggersModel", name := "line", desc := "(I)I" } : Jvm.MethodName)) ∈ lw_all := lw_g (lw_at lw_m11 109 rfl) rfl
theorem q2578 : (Jvm.Cond.selects "CurtainRiggersModel" ({ cls := "CurtainRiggersModel", name := "line", desc := "(I)I" } : Jvm.MethodName) ({ cls := "CurtainRiggersModel", name := "line", desc := "(I)I" } : Jvm.MethodName)) ∈ lw_all := lw_g (lw_at lw_m11 110 rfl) rfl
theorem q2579 : (Jvm.Cond.code ({ cls := "CurtainRiggersModel", name := "line", desc := "(I)I" } : Jvm.MethodName) prog_21_method_67_code (3 : Nat) (Option.some Jvm.ClassFile.FieldType.int)) ∈ lw_all := lw_g (lw_at lw_m11 111 rfl) rfl
theorem q2580 : (Jvm.Cond.methodLink "CurtainRiggersModel" (216 : Nat) ({ cls := "CurtainRiggersModel", name := "saysNumber", desc := "(I)V" } : Jvm.MethodName)) ∈ lw_all := lw_g (lw_at lw_m11 112 rfl) rfl
theorem q2581 : (Jvm.Cond.privateMethod ({ cls := "CurtainRiggersModel", name := "saysNumber", desc := "(I)V" } : Jvm.MethodName)) ∈ lw_tbl := lw_at lw_m11 113 rfl
theorem q2582 : (Jvm.Cond.instanceMethod ({ cls := "CurtainRiggersModel", name := "saysNumber", desc := "(I)V" } : Jvm.MethodName)) ∈ lw_all := lw_g (lw_at lw_m11 114 rfl) rfl
theorem q2583 : (Jvm.Cond.code ({ cls := "CurtainRiggersModel", name := "saysNumber", desc := "(I)V" } : Jvm.MethodName) prog_21_method_66_code (2 : Nat) (Option.none : Option Jvm.ClassFile.FieldType)) ∈ lw_all := lw_g (lw_at lw_m11 115 rfl) rfl
theorem q2584 : (Jvm.Cond.stringRef "CurtainRiggersModel" (220 : Nat) "m ") ∈ lw_tbl := lw_at lw_m11 116 rfl
theorem q2585 : (Jvm.Cond.methodLink "CurtainRiggersModel" (222 : Nat) ({ cls := "CurtainRiggersModel", name := "says", desc := "(Ljava/lang/String;)V" } : Jvm.MethodName)) ∈ lw_all := lw_g (lw_at lw_m11 117 rfl) rfl
theorem q2586 : (Jvm.Cond.privateMethod ({ cls := "CurtainRiggersModel", name := "says", desc := "(Ljava/lang/String;)V" } : Jvm.MethodName)) ∈ lw_tbl := lw_at lw_m11 118 rfl
theorem q2587 : (Jvm.Cond.instanceMethod ({ cls := "CurtainRiggersModel", name := "says", desc := "(Ljava/lang/String;)V" } : Jvm.MethodName)) ∈ lw_all := lw_g (lw_at lw_m11 119 rfl) rfl
theorem q2588 : (Jvm.Cond.code ({ cls := "CurtainRiggersModel", name := "says", desc := "(Ljava/lang/String;)V" } : Jvm.MethodName) prog_21_method_65_code (3 : Nat) (Option.none : Option Jvm.ClassFile.FieldType)) ∈ lw_all := lw_g (lw_at lw_m11 120 rfl) rfl
theorem q2589 : (Jvm.Cond.methodLink "CurtainRiggersModel" (206 : Nat) ({ cls := "java/lang/String", name := "length", desc := "()I" } : Jvm.MethodName)) ∈ lw_all := lw_g (lw_at lw_m11 121 rfl) rfl
theorem q2590 : (Jvm.Cond.methodLink "CurtainRiggersModel" (212 : Nat) ({ cls := "java/lang/String", name := "charAt", desc := "(I)C" } : Jvm.MethodName)) ∈ lw_all := lw_g (lw_at lw_m11 122 rfl) rfl
theorem q2591 : (Jvm.Cond.stringRef "CurtainRiggersModel" (226 : Nat) "/") ∈ lw_tbl := lw_at lw_m11 123 rfl
theorem q2592 : (Jvm.Cond.stringRef "CurtainRiggersModel" (228 : Nat) "kg") ∈ lw_tbl := lw_at lw_m11 124 rfl
theorem q2593 : (Jvm.Cond.stringRef "CurtainRiggersModel" (230 : Nat) " c") ∈ lw_tbl := lw_at lw_m11 125 rfl
theorem q2594 : (Jvm.Cond.stringRef "CurtainRiggersModel" (232 : Nat) " !") ∈ lw_tbl := lw_at lw_m11 126 rfl
theorem q2595 : (Jvm.Cond.stringRef "CurtainRiggersModel" (234 : Nat) "") ∈ lw_tbl := lw_at lw_m11 127 rfl
theorem q2597 : (Jvm.Cond.instanceMethod ({ cls := "CurtainRiggersModel", name := "cueLine", desc := "()I" } : Jvm.MethodName)) ∈ lw_all := lw_g (lw_at lw_m11 129 rfl) rfl
theorem q2598 : (Jvm.Cond.selects "CurtainRiggersModel" ({ cls := "CurtainRiggersModel", name := "cueLine", desc := "()I" } : Jvm.MethodName) ({ cls := "CurtainRiggersModel", name := "cueLine", desc := "()I" } : Jvm.MethodName)) ∈ lw_all := lw_g (lw_at lw_m11 130 rfl) rfl
theorem q2599 : (Jvm.Cond.code ({ cls := "CurtainRiggersModel", name := "cueLine", desc := "()I" } : Jvm.MethodName) prog_21_method_68_code (2 : Nat) (Option.some Jvm.ClassFile.FieldType.int)) ∈ lw_all := lw_g (lw_at lw_m11 131 rfl) rfl
theorem q2600 : (Jvm.Cond.stringRef "CurtainRiggersModel" (236 : Nat) ", ") ∈ lw_tbl := lw_at lw_m11 132 rfl
theorem q2601 : (Jvm.Cond.stringRef "CurtainRiggersModel" (238 : Nat) ":") ∈ lw_tbl := lw_at lw_m11 133 rfl
theorem q2602 : (Jvm.Cond.stringRef "CurtainRiggersModel" (240 : Nat) ">") ∈ lw_tbl := lw_at lw_m11 134 rfl
theorem q2603 : (Jvm.Cond.stringRef "CurtainRiggersModel" (242 : Nat) "*") ∈ lw_tbl := lw_at lw_m11 135 rfl
theorem q2604 : (Jvm.Cond.stringRef "CurtainRiggersModel" (244 : Nat) "no cues") ∈ lw_tbl := lw_at lw_m11 136 rfl
theorem q2606 : (Jvm.Cond.instanceMethod ({ cls := "CurtainRiggersModel", name := "character", desc := "(I)C" } : Jvm.MethodName)) ∈ lw_all := lw_g (lw_at lw_m11 138 rfl) rfl
theorem q2607 : (Jvm.Cond.selects "CurtainRiggersModel" ({ cls := "CurtainRiggersModel", name := "character", desc := "(I)C" } : Jvm.MethodName) ({ cls := "CurtainRiggersModel", name := "character", desc := "(I)C" } : Jvm.MethodName)) ∈ lw_all := lw_g (lw_at lw_m11 139 rfl) rfl
theorem q2608 : (Jvm.Cond.code ({ cls := "CurtainRiggersModel", name := "character", desc := "(I)C" } : Jvm.MethodName) prog_21_method_69_code (2 : Nat) (Option.some Jvm.ClassFile.FieldType.char)) ∈ lw_all := lw_g (lw_at lw_m11 140 rfl) rfl
theorem q2610 : (Jvm.Cond.instanceMethod ({ cls := "CurtainRiggersModel", name := "account", desc := "(I)I" } : Jvm.MethodName)) ∈ lw_all := lw_g (lw_at lw_m11 142 rfl) rfl
theorem q2611 : (Jvm.Cond.selects "CurtainRiggersModel" ({ cls := "CurtainRiggersModel", name := "account", desc := "(I)I" } : Jvm.MethodName) ({ cls := "CurtainRiggersModel", name := "account", desc := "(I)I" } : Jvm.MethodName)) ∈ lw_all := lw_g (lw_at lw_m11 143 rfl) rfl
theorem q2612 : (Jvm.Cond.code ({ cls := "CurtainRiggersModel", name := "account", desc := "(I)I" } : Jvm.MethodName) prog_21_method_72_code (2 : Nat) (Option.some Jvm.ClassFile.FieldType.int)) ∈ lw_all := lw_g (lw_at lw_m11 144 rfl) rfl
theorem q2613 : (Jvm.Cond.methodLink "CurtainRiggersModel" (246 : Nat) ({ cls := "CurtainRiggersModel", name := "hanging", desc := "(Z)I" } : Jvm.MethodName)) ∈ lw_all := lw_g (lw_at lw_m11 145 rfl) rfl
theorem q2614 : (Jvm.Cond.privateMethod ({ cls := "CurtainRiggersModel", name := "hanging", desc := "(Z)I" } : Jvm.MethodName)) ∈ lw_tbl := lw_at lw_m11 146 rfl
theorem q2615 : (Jvm.Cond.instanceMethod ({ cls := "CurtainRiggersModel", name := "hanging", desc := "(Z)I" } : Jvm.MethodName)) ∈ lw_all := lw_g (lw_at lw_m11 147 rfl) rfl
theorem q2616 : (Jvm.Cond.code ({ cls := "CurtainRiggersModel", name := "hanging", desc := "(Z)I" } : Jvm.MethodName) prog_21_method_70_code (4 : Nat) (Option.some Jvm.ClassFile.FieldType.int)) ∈ lw_all := lw_g (lw_at lw_m11 148 rfl) rfl
theorem q2617 : (Jvm.Cond.methodLink "CurtainRiggersModel" (250 : Nat) ({ cls := "CurtainRiggersModel", name := "unbalanced", desc := "()I" } : Jvm.MethodName)) ∈ lw_all := lw_g (lw_at lw_m11 149 rfl) rfl
theorem q2618 : (Jvm.Cond.privateMethod ({ cls := "CurtainRiggersModel", name := "unbalanced", desc := "()I" } : Jvm.MethodName)) ∈ lw_tbl := lw_at lw_m11 150 rfl
theorem q2619 : (Jvm.Cond.instanceMethod ({ cls := "CurtainRiggersModel", name := "unbalanced", desc := "()I" } : Jvm.MethodName)) ∈ lw_all := lw_g (lw_at lw_m11 151 rfl) rfl
theorem q2620 : (Jvm.Cond.code ({ cls := "CurtainRiggersModel", name := "unbalanced", desc := "()I" } : Jvm.MethodName) prog_21_method_71_code (3 : Nat) (Option.some Jvm.ClassFile.FieldType.int)) ∈ lw_all := lw_g (lw_at lw_m11 152 rfl) rfl
theorem q2622 : (Jvm.Cond.instanceMethod ({ cls := "CurtainRiggersModel", name := "storeAgain", desc := "()I" } : Jvm.MethodName)) ∈ lw_all := lw_g (lw_at lw_m11 154 rfl) rfl
theorem q2623 : (Jvm.Cond.selects "CurtainRiggersModel" ({ cls := "CurtainRiggersModel", name := "storeAgain", desc := "()I" } : Jvm.MethodName) ({ cls := "CurtainRiggersModel", name := "storeAgain", desc := "()I" } : Jvm.MethodName)) ∈ lw_all := lw_g (lw_at lw_m11 155 rfl) rfl
theorem q2624 : (Jvm.Cond.code ({ cls := "CurtainRiggersModel", name := "storeAgain", desc := "()I" } : Jvm.MethodName) prog_21_method_73_code (1 : Nat) (Option.some Jvm.ClassFile.FieldType.int)) ∈ lw_all := lw_g (lw_at lw_m11 156 rfl) rfl
theorem q2626 : (Jvm.Cond.instanceMethod ({ cls := "CurtainRiggersModel", name := "meanHeight", desc := "()D" } : Jvm.MethodName)) ∈ lw_all := lw_g (lw_at lw_m11 158 rfl) rfl
theorem q2627 : (Jvm.Cond.selects "CurtainRiggersModel" ({ cls := "CurtainRiggersModel", name := "meanHeight", desc := "()D" } : Jvm.MethodName) ({ cls := "CurtainRiggersModel", name := "meanHeight", desc := "()D" } : Jvm.MethodName)) ∈ lw_all := lw_g (lw_at lw_m11 159 rfl) rfl
theorem q2628 : (Jvm.Cond.code ({ cls := "CurtainRiggersModel", name := "meanHeight", desc := "()D" } : Jvm.MethodName) prog_21_method_74_code (3 : Nat) (Option.some Jvm.ClassFile.FieldType.double)) ∈ lw_all := lw_g (lw_at lw_m11 160 rfl) rfl
theorem q2630 : (Jvm.Cond.instanceMethod ({ cls := "CurtainRiggersModel", name := "balancedShare", desc := "()F" } : Jvm.MethodName)) ∈ lw_all := lw_g (lw_at lw_m11 162 rfl) rfl
theorem q2631 : (Jvm.Cond.selects "CurtainRiggersModel" ({ cls := "CurtainRiggersModel", name := "balancedShare", desc := "()F" } : Jvm.MethodName) ({ cls := "CurtainRiggersModel", name := "balancedShare", desc := "()F" } : Jvm.MethodName)) ∈ lw_all := lw_g (lw_at lw_m11 163 rfl) rfl
theorem q2632 : (Jvm.Cond.code ({ cls := "CurtainRiggersModel", name := "balancedShare", desc := "()F" } : Jvm.MethodName) prog_21_method_75_code (1 : Nat) (Option.some Jvm.ClassFile.FieldType.float)) ∈ lw_all := lw_g (lw_at lw_m11 164 rfl) rfl
theorem q2634 : (Jvm.Cond.instanceMethod ({ cls := "CurtainRiggersModel", name := "append", desc := "(I)I" } : Jvm.MethodName)) ∈ lw_all := lw_g (lw_at lw_m11 166 rfl) rfl
theorem q2635 : (Jvm.Cond.selects "CurtainRiggersModel" ({ cls := "CurtainRiggersModel", name := "append", desc := "(I)I" } : Jvm.MethodName) ({ cls := "CurtainRiggersModel", name := "append", desc := "(I)I" } : Jvm.MethodName)) ∈ lw_all := lw_g (lw_at lw_m11 167 rfl) rfl
theorem q2636 : (Jvm.Cond.code ({ cls := "CurtainRiggersModel", name := "append", desc := "(I)I" } : Jvm.MethodName) prog_21_method_76_code (6 : Nat) (Option.some Jvm.ClassFile.FieldType.int)) ∈ lw_all := lw_g (lw_at lw_m11 168 rfl) rfl
theorem q2638 : (Jvm.Cond.instanceMethod ({ cls := "CurtainRiggersModel", name := "read", desc := "()I" } : Jvm.MethodName)) ∈ lw_all := lw_g (lw_at lw_m11 170 rfl) rfl
theorem q2639 : (Jvm.Cond.selects "CurtainRiggersModel" ({ cls := "CurtainRiggersModel", name := "read", desc := "()I" } : Jvm.MethodName) ({ cls := "CurtainRiggersModel", name := "read", desc := "()I" } : Jvm.MethodName)) ∈ lw_all := lw_g (lw_at lw_m11 171 rfl) rfl
theorem q2640 : (Jvm.Cond.code ({ cls := "CurtainRiggersModel", name := "read", desc := "()I" } : Jvm.MethodName) prog_21_method_84_code (2 : Nat) (Option.some Jvm.ClassFile.FieldType.int)) ∈ lw_all := lw_g (lw_at lw_m11 172 rfl) rfl
theorem q2641 : (Jvm.Cond.methodLink "CurtainRiggersModel" (283 : Nat) ({ cls := "CurtainRiggersModel", name := "readItem", desc := "()V" } : Jvm.MethodName)) ∈ lw_all := lw_g (lw_at lw_m11 173 rfl) rfl
theorem q2642 : (Jvm.Cond.privateMethod ({ cls := "CurtainRiggersModel", name := "readItem", desc := "()V" } : Jvm.MethodName)) ∈ lw_tbl := lw_at lw_m11 174 rfl
theorem q2643 : (Jvm.Cond.instanceMethod ({ cls := "CurtainRiggersModel", name := "readItem", desc := "()V" } : Jvm.MethodName)) ∈ lw_all := lw_g (lw_at lw_m11 175 rfl) rfl
theorem q2644 : (Jvm.Cond.code ({ cls := "CurtainRiggersModel", name := "readItem", desc := "()V" } : Jvm.MethodName) prog_21_method_82_code (5 : Nat) (Option.none : Option Jvm.ClassFile.FieldType)) ∈ lw_all := lw_g (lw_at lw_m11 176 rfl) rfl
theorem q2645 : (Jvm.Cond.methodLink "CurtainRiggersModel" (273 : Nat) ({ cls := "CurtainRiggersModel", name := "alike", desc := "(Ljava/lang/String;)I" } : Jvm.MethodName)) ∈ lw_all := lw_g (lw_at lw_m11 177 rfl) rfl
theorem q2646 : (Jvm.Cond.privateMethod ({ cls := "CurtainRiggersModel", name := "alike", desc := "(Ljava/lang/String;)I" } : Jvm.MethodName)) ∈ lw_tbl := lw_at lw_m11 178 rfl
theorem q2647 : (Jvm.Cond.instanceMethod ({ cls := "CurtainRiggersModel", name := "alike", desc := "(Ljava/lang/String;)I" } : Jvm.MethodName)) ∈ lw_all := lw_g (lw_at lw_m11 179 rfl) rfl
theorem q2648 : (Jvm.Cond.code ({ cls := "CurtainRiggersModel", name := "alike", desc := "(Ljava/lang/String;)I" } : Jvm.MethodName) prog_21_method_81_code (3 : Nat) (Option.some Jvm.ClassFile.FieldType.int)) ∈ lw_all := lw_g (lw_at lw_m11 180 rfl) rfl
theorem q2649 : (Jvm.Cond.methodLink "CurtainRiggersModel" (280 : Nat) ({ cls := "CurtainRiggersModel", name := "number", desc := "()I" } : Jvm.MethodName)) ∈ lw_all := lw_g (lw_at lw_m11 181 rfl) rfl
theorem q2650 : (Jvm.Cond.privateMethod ({ cls := "CurtainRiggersModel", name := "number", desc := "()I" } : Jvm.MethodName)) ∈ lw_tbl := lw_at lw_m11 182 rfl
theorem q2651 : (Jvm.Cond.instanceMethod ({ cls := "CurtainRiggersModel", name := "number", desc := "()I" } : Jvm.MethodName)) ∈ lw_all := lw_g (lw_at lw_m11 183 rfl) rfl
theorem q2652 : (Jvm.Cond.code ({ cls := "CurtainRiggersModel", name := "number", desc := "()I" } : Jvm.MethodName) prog_21_method_80_code (2 : Nat) (Option.some Jvm.ClassFile.FieldType.int)) ∈ lw_all := lw_g (lw_at lw_m11 184 rfl) rfl
theorem q2653 : (Jvm.Cond.methodLink "CurtainRiggersModel" (270 : Nat) ({ cls := "CurtainRiggersModel", name := "digit", desc := "()I" } : Jvm.MethodName)) ∈ lw_all := lw_g (lw_at lw_m11 185 rfl) rfl
theorem q2654 : (Jvm.Cond.privateMethod ({ cls := "CurtainRiggersModel", name := "digit", desc := "()I" } : Jvm.MethodName)) ∈ lw_tbl := lw_at lw_m11 186 rfl
theorem q2655 : (Jvm.Cond.instanceMethod ({ cls := "CurtainRiggersModel", name := "digit", desc := "()I" } : Jvm.MethodName)) ∈ lw_all := lw_g (lw_at lw_m11 187 rfl) rfl
theorem q2656 : (Jvm.Cond.code ({ cls := "CurtainRiggersModel", name := "digit", desc := "()I" } : Jvm.MethodName) prog_21_method_79_code (1 : Nat) (Option.some Jvm.ClassFile.FieldType.int)) ∈ lw_all := lw_g (lw_at lw_m11 188 rfl) rfl
theorem q2657 : (Jvm.Cond.methodLink "CurtainRiggersModel" (266 : Nat) ({ cls := "CurtainRiggersModel", name := "sign", desc := "(CC)I" } : Jvm.MethodName)) ∈ lw_all := lw_g (lw_at lw_m11 189 rfl) rfl
theorem q2658 : (Jvm.Cond.privateMethod ({ cls := "CurtainRiggersModel", name := "sign", desc := "(CC)I" } : Jvm.MethodName)) ∈ lw_tbl := lw_at lw_m11 190 rfl
theorem q2659 : (Jvm.Cond.instanceMethod ({ cls := "CurtainRiggersModel", name := "sign", desc := "(CC)I" } : Jvm.MethodName)) ∈ lw_all := lw_g (lw_at lw_m11 191 rfl) rfl
theorem q2660 : (Jvm.Cond.code ({ cls := "CurtainRiggersModel", name := "sign", desc := "(CC)I" } : Jvm.MethodName) prog_21_method_78_code (3 : Nat) (Option.some Jvm.ClassFile.FieldType.int)) ∈ lw_all := lw_g (lw_at lw_m11 192 rfl) rfl
theorem q2661 : (Jvm.Cond.methodLink "CurtainRiggersModel" (262 : Nat) ({ cls := "CurtainRiggersModel", name := "isHere", desc := "(CC)Z" } : Jvm.MethodName)) ∈ lw_all := lw_g (lw_at lw_m11 193 rfl) rfl
theorem q2662 : (Jvm.Cond.privateMethod ({ cls := "CurtainRiggersModel", name := "isHere", desc := "(CC)Z" } : Jvm.MethodName)) ∈ lw_tbl := lw_at lw_m11 194 rfl
theorem q2663 : (Jvm.Cond.instanceMethod ({ cls := "CurtainRiggersModel", name := "isHere", desc := "(CC)Z" } : Jvm.MethodName)) ∈ lw_all := lw_g (lw_at lw_m11 195 rfl) rfl
theorem q2664 : (Jvm.Cond.code ({ cls := "CurtainRiggersModel", name := "isHere", desc := "(CC)Z" } : Jvm.MethodName) prog_21_method_77_code (3 : Nat) (Option.some Jvm.ClassFile.FieldType.boolean)) ∈ lw_all := lw_g (lw_at lw_m11 196 rfl) rfl
theorem q2665 : (Jvm.Cond.methodLink "CurtainRiggersModel" (286 : Nat) ({ cls := "CurtainRiggersModel", name := "does", desc := "(I)V" } : Jvm.MethodName)) ∈ lw_all := lw_g (lw_at lw_m11 197 rfl) rfl
theorem q2666 : (Jvm.Cond.privateMethod ({ cls := "CurtainRiggersModel", name := "does", desc := "(I)V" } : Jvm.MethodName)) ∈ lw_tbl := lw_at lw_m11 198 rfl
theorem q2667 : (Jvm.Cond.instanceMethod ({ cls := "CurtainRiggersModel", name := "does", desc := "(I)V" } : Jvm.MethodName)) ∈ lw_all := lw_g (lw_at lw_m11 199 rfl) rfl
theorem q2668 : (Jvm.Cond.code ({ cls := "CurtainRiggersModel", name := "does", desc := "(I)V" } : Jvm.MethodName) prog_21_method_83_code (5 : Nat) (Option.none : Option Jvm.ClassFile.FieldType)) ∈ lw_all := lw_g (lw_at lw_m11 200 rfl) rfl
theorem q2670 : (Jvm.Cond.instanceMethod ({ cls := "CurtainRiggersModel", name := "errorPosition", desc := "()I" } : Jvm.MethodName)) ∈ lw_all := lw_g (lw_at lw_m11 202 rfl) rfl
theorem q2671 : (Jvm.Cond.selects "CurtainRiggersModel" ({ cls := "CurtainRiggersModel", name := "errorPosition", desc := "()I" } : Jvm.MethodName) ({ cls := "CurtainRiggersModel", name := "errorPosition", desc := "()I" } : Jvm.MethodName)) ∈ lw_all := lw_g (lw_at lw_m11 203 rfl) rfl
theorem q2672 : (Jvm.Cond.code ({ cls := "CurtainRiggersModel", name := "errorPosition", desc := "()I" } : Jvm.MethodName) prog_21_method_85_code (1 : Nat) (Option.some Jvm.ClassFile.FieldType.int)) ∈ lw_all := lw_g (lw_at lw_m11 204 rfl) rfl
theorem q2674 : (Jvm.Cond.instanceMethod ({ cls := "CurtainRiggersModel", name := "refusedItem", desc := "()I" } : Jvm.MethodName)) ∈ lw_all := lw_g (lw_at lw_m11 206 rfl) rfl
theorem q2675 : (Jvm.Cond.selects "CurtainRiggersModel" ({ cls := "CurtainRiggersModel", name := "refusedItem", desc := "()I" } : Jvm.MethodName) ({ cls := "CurtainRiggersModel", name := "refusedItem", desc := "()I" } : Jvm.MethodName)) ∈ lw_all := lw_g (lw_at lw_m11 207 rfl) rfl
theorem q2676 : (Jvm.Cond.code ({ cls := "CurtainRiggersModel", name := "refusedItem", desc := "()I" } : Jvm.MethodName) prog_21_method_86_code (1 : Nat) (Option.some Jvm.ClassFile.FieldType.int)) ∈ lw_all := lw_g (lw_at lw_m11 208 rfl) rfl
theorem q2678 : (Jvm.Cond.instanceMethod ({ cls := "CurtainRiggersModel", name := "undo", desc := "()I" } : Jvm.MethodName)) ∈ lw_all := lw_g (lw_at lw_m11 210 rfl) rfl
theorem q2679 : (Jvm.Cond.selects "CurtainRiggersModel" ({ cls := "CurtainRiggersModel", name := "undo", desc := "()I" } : Jvm.MethodName) ({ cls := "CurtainRiggersModel", name := "undo", desc := "()I" } : Jvm.MethodName)) ∈ lw_all := lw_g (lw_at lw_m11 211 rfl) rfl
theorem q2680 : (Jvm.Cond.code ({ cls := "CurtainRiggersModel", name := "undo", desc := "()I" } : Jvm.MethodName) prog_21_method_87_code (1 : Nat) (Option.some Jvm.ClassFile.FieldType.int)) ∈ lw_all := lw_g (lw_at lw_m11 212 rfl) rfl
theorem q2682 : (Jvm.Cond.instanceMethod ({ cls := "CurtainRiggersModel", name := "snapshot", desc := "()I" } : Jvm.MethodName)) ∈ lw_all := lw_g (lw_at lw_m11 214 rfl) rfl
theorem q2683 : (Jvm.Cond.selects "CurtainRiggersModel" ({ cls := "CurtainRiggersModel", name := "snapshot", desc := "()I" } : Jvm.MethodName) ({ cls := "CurtainRiggersModel", name := "snapshot", desc := "()I" } : Jvm.MethodName)) ∈ lw_all := lw_g (lw_at lw_m11 215 rfl) rfl
theorem q2684 : (Jvm.Cond.code ({ cls := "CurtainRiggersModel", name := "snapshot", desc := "()I" } : Jvm.MethodName) prog_21_method_88_code (1 : Nat) (Option.some Jvm.ClassFile.FieldType.int)) ∈ lw_all := lw_g (lw_at lw_m11 216 rfl) rfl
theorem q2686 : (Jvm.Cond.instanceMethod ({ cls := "CurtainRiggersModel", name := "restore", desc := "()I" } : Jvm.MethodName)) ∈ lw_all := lw_g (lw_at lw_m11 218 rfl) rfl
theorem q2687 : (Jvm.Cond.selects "CurtainRiggersModel" ({ cls := "CurtainRiggersModel", name := "restore", desc := "()I" } : Jvm.MethodName) ({ cls := "CurtainRiggersModel", name := "restore", desc := "()I" } : Jvm.MethodName)) ∈ lw_all := lw_g (lw_at lw_m11 219 rfl) rfl
theorem q2688 : (Jvm.Cond.code ({ cls := "CurtainRiggersModel", name := "restore", desc := "()I" } : Jvm.MethodName) prog_21_method_89_code (1 : Nat) (Option.some Jvm.ClassFile.FieldType.int)) ∈ lw_all := lw_g (lw_at lw_m11 220 rfl) rfl
theorem q2712 : (Jvm.Cond.castable "CurtainRiggersModel" "java/lang/Object") ∈ lw_tbl := lw_at lw_m12 4 rfl
theorem in_X4 : ∀ w ∈ wsX40, w ∈ lw_all := lw_in wsX40 [2280, 2282, 2284, 2286, 2288, 2290, 2292, 2294, 2296, 2298, 2300, 2302, 2304, 2306, 2308, 2310, 2312, 2314, 2316, 2318, 2320] (by decide +kernel) (by decide +kernel)
