/-! CurtainRiggers -/
set_option maxRecDepth 100000
def RX1 : String := "CurtainRiggers"
def TX1 : u_T := fun k => match k with
  | 0 => ("CurtainRiggers", "theatre", "LCurtainRiggers$Theatre;", false)
  | 1 => ("CurtainRiggers", "undoSteps", "Ljava/util/ArrayDeque;", true)
  | 2 => ("CurtainRiggers", "saved", "LCurtainRiggers$Theatre;", false)
  | 3 => ("CurtainRiggers", "input", "Ljava/lang/StringBuilder;", false)
  | 4 => ("CurtainRiggers", "line", "Ljava/lang/String;", false)
  | 5 => ("CurtainRiggers", "lastError", "LCurtainRiggers$SyntaxException;", false)
  | 6 => ("CurtainRiggers", "lastItem", "I", false)
  | _ => ("CurtainRiggers", "lastRefusal", "LCurtainRiggers$Refused;", false)
def tyX1 : Nat → FieldType := fun k => match k with
  | 0 => .object "CurtainRiggers$Theatre"
  | 1 => .object "java/util/ArrayDeque"
  | 2 => .object "CurtainRiggers$Theatre"
  | 3 => .object "java/lang/StringBuilder"
  | 4 => .object "java/lang/String"
  | 5 => .object "CurtainRiggers$SyntaxException"
  | 6 => .int
  | _ => .object "CurtainRiggers$Refused"
abbrev wsX10 : List Cond := u_ws RX1 TX1 8
theorem nmX1 : ∀ a, a < 8 → ∀ b, b < 8 → a ≠ b → (TX1 a).2.1 ≠ (TX1 b).2.1 := by decide +kernel
theorem tyX1_ok : ∀ k, k < 8 → parseFieldDescriptor (TX1 k).2.2.1 = some (tyX1 k) := by decide +kernel
abbrev cX1_init : ByteArray := prog_1_method_9_code
def yX1_init : MethodName := ⟨RX1, "<init>", "()V"⟩
def dkwX1_init_2 : List UInt8 := [181, 0, 63, 177]
abbrev dktX1_init_2 : List UInt8 := dkwX1_init_2 ++ []
def dkwX1_init_1 : List UInt8 := [181, 0, 46, 42, 187, 0, 50, 89, 183, 0, 52, 181, 0, 53, 42, 18, 57, 181, 0, 59, 42, 2]
abbrev dktX1_init_1 : List UInt8 := dkwX1_init_1 ++ dktX1_init_2
def dkwX1_init_0 : List UInt8 := [42, 183, 0, 33, 42, 187, 0, 36, 89, 183, 0, 38, 181, 0, 39, 42, 187, 0, 43, 89, 183, 0, 45]
abbrev dktX1_init_0 : List UInt8 := dkwX1_init_0 ++ dktX1_init_1
theorem dksX1_init_0 : cX1_init.data.toList.drop 0 = dktX1_init_0 := by decide +kernel
theorem dksX1_init_1 : cX1_init.data.toList.drop 23 = dktX1_init_1 := dk_seg dksX1_init_0 23 rfl rfl
theorem dksX1_init_2 : cX1_init.data.toList.drop 45 = dktX1_init_2 := dk_seg dksX1_init_1 22 rfl rfl
theorem dX1_init_0 : decode cX1_init 0 = .ok (.aload_n 0, 1) := dk_42 (dk_at dksX1_init_0 0 rfl rfl)
theorem dX1_init_1 : decode cX1_init 1 = .ok (.invokespecial 33, 3) := dk_183 0 33 (dk_at dksX1_init_0 1 rfl rfl)
theorem dX1_init_4 : decode cX1_init 4 = .ok (.aload_n 0, 1) := dk_42 (dk_at dksX1_init_0 4 rfl rfl)
theorem dX1_init_5 : decode cX1_init 5 = .ok (.new 36, 3) := dk_187 0 36 (dk_at dksX1_init_0 5 rfl rfl)
theorem dX1_init_8 : decode cX1_init 8 = .ok (.dup, 1) := dk_89 (dk_at dksX1_init_0 8 rfl rfl)
theorem dX1_init_9 : decode cX1_init 9 = .ok (.invokespecial 38, 3) := dk_183 0 38 (dk_at dksX1_init_0 9 rfl rfl)
theorem dX1_init_12 : decode cX1_init 12 = .ok (.putfield 39, 3) := dk_181 0 39 (dk_at dksX1_init_0 12 rfl rfl)
theorem dX1_init_15 : decode cX1_init 15 = .ok (.aload_n 0, 1) := dk_42 (dk_at dksX1_init_0 15 rfl rfl)
theorem dX1_init_16 : decode cX1_init 16 = .ok (.new 43, 3) := dk_187 0 43 (dk_at dksX1_init_0 16 rfl rfl)
theorem dX1_init_19 : decode cX1_init 19 = .ok (.dup, 1) := dk_89 (dk_at dksX1_init_0 19 rfl rfl)
theorem dX1_init_20 : decode cX1_init 20 = .ok (.invokespecial 45, 3) := dk_183 0 45 (dk_at dksX1_init_0 20 rfl rfl)
theorem dX1_init_23 : decode cX1_init 23 = .ok (.putfield 46, 3) := dk_181 0 46 (dk_at dksX1_init_1 0 rfl rfl)
theorem dX1_init_26 : decode cX1_init 26 = .ok (.aload_n 0, 1) := dk_42 (dk_at dksX1_init_1 3 rfl rfl)
theorem dX1_init_27 : decode cX1_init 27 = .ok (.new 50, 3) := dk_187 0 50 (dk_at dksX1_init_1 4 rfl rfl)
theorem dX1_init_30 : decode cX1_init 30 = .ok (.dup, 1) := dk_89 (dk_at dksX1_init_1 7 rfl rfl)
theorem dX1_init_31 : decode cX1_init 31 = .ok (.invokespecial 52, 3) := dk_183 0 52 (dk_at dksX1_init_1 8 rfl rfl)
theorem dX1_init_34 : decode cX1_init 34 = .ok (.putfield 53, 3) := dk_181 0 53 (dk_at dksX1_init_1 11 rfl rfl)
theorem dX1_init_37 : decode cX1_init 37 = .ok (.aload_n 0, 1) := dk_42 (dk_at dksX1_init_1 14 rfl rfl)
theorem dX1_init_38 : decode cX1_init 38 = .ok (.ldc 57, 2) := dk_18 57 (dk_at dksX1_init_1 15 rfl rfl)
theorem dX1_init_40 : decode cX1_init 40 = .ok (.putfield 59, 3) := dk_181 0 59 (dk_at dksX1_init_1 17 rfl rfl)
theorem dX1_init_43 : decode cX1_init 43 = .ok (.aload_n 0, 1) := dk_42 (dk_at dksX1_init_1 20 rfl rfl)
theorem dX1_init_44 : decode cX1_init 44 = .ok (.iconst (-1), 1) := dk_2 (dk_at dksX1_init_1 21 rfl rfl)
theorem dX1_init_45 : decode cX1_init 45 = .ok (.putfield 63, 3) := dk_181 0 63 (dk_at dksX1_init_2 0 rfl rfl)
theorem dX1_init_48 : decode cX1_init 48 = .ok (.return_, 1) := dk_177 (dk_at dksX1_init_2 3 rfl rfl)
abbrev cX1_clear : ByteArray := prog_1_method_12_code
def yX1_clear : MethodName := ⟨RX1, "clear", "()I"⟩
def dkwX1_clear_1 : List UInt8 := [180, 0, 46, 182, 0, 112, 27, 172]
abbrev dktX1_clear_1 : List UInt8 := dkwX1_clear_1 ++ []
def dkwX1_clear_0 : List UInt8 := [42, 180, 0, 39, 180, 0, 105, 182, 0, 109, 60, 42, 187, 0, 36, 89, 183, 0, 38, 181, 0, 39, 42]
abbrev dktX1_clear_0 : List UInt8 := dkwX1_clear_0 ++ dktX1_clear_1
theorem dksX1_clear_0 : cX1_clear.data.toList.drop 0 = dktX1_clear_0 := by decide +kernel
theorem dksX1_clear_1 : cX1_clear.data.toList.drop 23 = dktX1_clear_1 := dk_seg dksX1_clear_0 23 rfl rfl
theorem dX1_clear_0 : decode cX1_clear 0 = .ok (.aload_n 0, 1) := dk_42 (dk_at dksX1_clear_0 0 rfl rfl)
theorem dX1_clear_1 : decode cX1_clear 1 = .ok (.getfield 39, 3) := dk_180 0 39 (dk_at dksX1_clear_0 1 rfl rfl)
theorem dX1_clear_4 : decode cX1_clear 4 = .ok (.getfield 105, 3) := dk_180 0 105 (dk_at dksX1_clear_0 4 rfl rfl)
theorem dX1_clear_7 : decode cX1_clear 7 = .ok (.invokevirtual 109, 3) := dk_182 0 109 (dk_at dksX1_clear_0 7 rfl rfl)
theorem dX1_clear_10 : decode cX1_clear 10 = .ok (.istore_n 1, 1) := dk_60 (dk_at dksX1_clear_0 10 rfl rfl)
theorem dX1_clear_11 : decode cX1_clear 11 = .ok (.aload_n 0, 1) := dk_42 (dk_at dksX1_clear_0 11 rfl rfl)
theorem dX1_clear_12 : decode cX1_clear 12 = .ok (.new 36, 3) := dk_187 0 36 (dk_at dksX1_clear_0 12 rfl rfl)
theorem dX1_clear_15 : decode cX1_clear 15 = .ok (.dup, 1) := dk_89 (dk_at dksX1_clear_0 15 rfl rfl)
theorem dX1_clear_16 : decode cX1_clear 16 = .ok (.invokespecial 38, 3) := dk_183 0 38 (dk_at dksX1_clear_0 16 rfl rfl)
theorem dX1_clear_19 : decode cX1_clear 19 = .ok (.putfield 39, 3) := dk_181 0 39 (dk_at dksX1_clear_0 19 rfl rfl)
theorem dX1_clear_22 : decode cX1_clear 22 = .ok (.aload_n 0, 1) := dk_42 (dk_at dksX1_clear_0 22 rfl rfl)
theorem dX1_clear_23 : decode cX1_clear 23 = .ok (.getfield 46, 3) := dk_180 0 46 (dk_at dksX1_clear_1 0 rfl rfl)
theorem dX1_clear_26 : decode cX1_clear 26 = .ok (.invokevirtual 112, 3) := dk_182 0 112 (dk_at dksX1_clear_1 3 rfl rfl)
theorem dX1_clear_29 : decode cX1_clear 29 = .ok (.iload_n 1, 1) := dk_27 (dk_at dksX1_clear_1 6 rfl rfl)
theorem dX1_clear_30 : decode cX1_clear 30 = .ok (.ireturn, 1) := dk_172 (dk_at dksX1_clear_1 7 rfl rfl)
abbrev cX1_playable : ByteArray := prog_1_method_39_code
def yX1_playable : MethodName := ⟨RX1, "playable", "()I"⟩
def dkwX1_playable_0 : List UInt8 := [42, 180, 0, 39, 182, 1, 28, 172]
abbrev dktX1_playable_0 : List UInt8 := dkwX1_playable_0 ++ []
theorem dksX1_playable_0 : cX1_playable.data.toList.drop 0 = dktX1_playable_0 := by decide +kernel
theorem dX1_playable_0 : decode cX1_playable 0 = .ok (.aload_n 0, 1) := dk_42 (dk_at dksX1_playable_0 0 rfl rfl)
theorem dX1_playable_1 : decode cX1_playable 1 = .ok (.getfield 39, 3) := dk_180 0 39 (dk_at dksX1_playable_0 1 rfl rfl)
theorem dX1_playable_4 : decode cX1_playable 4 = .ok (.invokevirtual 284, 3) := dk_182 1 28 (dk_at dksX1_playable_0 4 rfl rfl)
theorem dX1_playable_7 : decode cX1_playable 7 = .ok (.ireturn, 1) := dk_172 (dk_at dksX1_playable_0 7 rfl rfl)
abbrev cX1_cueLine : ByteArray := prog_1_method_41_code
def yX1_cueLine : MethodName := ⟨RX1, "cueLine", "()I"⟩
def dkwX1_cueLine_0 : List UInt8 := [42, 42, 180, 0, 39, 182, 1, 39, 181, 0, 59, 42, 180, 0, 59, 182, 1, 34, 172]
abbrev dktX1_cueLine_0 : List UInt8 := dkwX1_cueLine_0 ++ []
theorem dksX1_cueLine_0 : cX1_cueLine.data.toList.drop 0 = dktX1_cueLine_0 := by decide +kernel
theorem dX1_cueLine_0 : decode cX1_cueLine 0 = .ok (.aload_n 0, 1) := dk_42 (dk_at dksX1_cueLine_0 0 rfl rfl)
theorem dX1_cueLine_1 : decode cX1_cueLine 1 = .ok (.aload_n 0, 1) := dk_42 (dk_at dksX1_cueLine_0 1 rfl rfl)
theorem dX1_cueLine_2 : decode cX1_cueLine 2 = .ok (.getfield 39, 3) := dk_180 0 39 (dk_at dksX1_cueLine_0 2 rfl rfl)
theorem dX1_cueLine_5 : decode cX1_cueLine 5 = .ok (.invokevirtual 295, 3) := dk_182 1 39 (dk_at dksX1_cueLine_0 5 rfl rfl)
theorem dX1_cueLine_8 : decode cX1_cueLine 8 = .ok (.putfield 59, 3) := dk_181 0 59 (dk_at dksX1_cueLine_0 8 rfl rfl)
theorem dX1_cueLine_11 : decode cX1_cueLine 11 = .ok (.aload_n 0, 1) := dk_42 (dk_at dksX1_cueLine_0 11 rfl rfl)
theorem dX1_cueLine_12 : decode cX1_cueLine 12 = .ok (.getfield 59, 3) := dk_180 0 59 (dk_at dksX1_cueLine_0 12 rfl rfl)
theorem dX1_cueLine_15 : decode cX1_cueLine 15 = .ok (.invokevirtual 290, 3) := dk_182 1 34 (dk_at dksX1_cueLine_0 15 rfl rfl)
theorem dX1_cueLine_18 : decode cX1_cueLine 18 = .ok (.ireturn, 1) := dk_172 (dk_at dksX1_cueLine_0 18 rfl rfl)
abbrev cX1_storeAgain : ByteArray := prog_1_method_45_code
def yX1_storeAgain : MethodName := ⟨RX1, "storeAgain", "()I"⟩
def dkwX1_storeAgain_0 : List UInt8 := [16, 60, 42, 180, 0, 39, 5, 182, 1, 66, 100, 172]
abbrev dktX1_storeAgain_0 : List UInt8 := dkwX1_storeAgain_0 ++ []
theorem dksX1_storeAgain_0 : cX1_storeAgain.data.toList.drop 0 = dktX1_storeAgain_0 := by decide +kernel
theorem dX1_storeAgain_0 : decode cX1_storeAgain 0 = .ok (.bipush 60, 2) := dk_16 60 (dk_at dksX1_storeAgain_0 0 rfl rfl)
theorem dX1_storeAgain_2 : decode cX1_storeAgain 2 = .ok (.aload_n 0, 1) := dk_42 (dk_at dksX1_storeAgain_0 2 rfl rfl)
theorem dX1_storeAgain_3 : decode cX1_storeAgain 3 = .ok (.getfield 39, 3) := dk_180 0 39 (dk_at dksX1_storeAgain_0 3 rfl rfl)
theorem dX1_storeAgain_6 : decode cX1_storeAgain 6 = .ok (.iconst 2, 1) := dk_5 (dk_at dksX1_storeAgain_0 6 rfl rfl)
theorem dX1_storeAgain_7 : decode cX1_storeAgain 7 = .ok (.invokevirtual 322, 3) := dk_182 1 66 (dk_at dksX1_storeAgain_0 7 rfl rfl)
theorem dX1_storeAgain_10 : decode cX1_storeAgain 10 = .ok (.isub, 1) := dk_100 (dk_at dksX1_storeAgain_0 10 rfl rfl)
theorem dX1_storeAgain_11 : decode cX1_storeAgain 11 = .ok (.ireturn, 1) := dk_172 (dk_at dksX1_storeAgain_0 11 rfl rfl)
abbrev cX1_snapshot : ByteArray := prog_1_method_54_code
def yX1_snapshot : MethodName := ⟨RX1, "snapshot", "()I"⟩
def dkwX1_snapshot_0 : List UInt8 := [42, 42, 180, 0, 39, 181, 1, 132, 42, 180, 0, 39, 180, 1, 59, 172]
abbrev dktX1_snapshot_0 : List UInt8 := dkwX1_snapshot_0 ++ []
theorem dksX1_snapshot_0 : cX1_snapshot.data.toList.drop 0 = dktX1_snapshot_0 := by decide +kernel
theorem dX1_snapshot_0 : decode cX1_snapshot 0 = .ok (.aload_n 0, 1) := dk_42 (dk_at dksX1_snapshot_0 0 rfl rfl)
theorem dX1_snapshot_1 : decode cX1_snapshot 1 = .ok (.aload_n 0, 1) := dk_42 (dk_at dksX1_snapshot_0 1 rfl rfl)
theorem dX1_snapshot_2 : decode cX1_snapshot 2 = .ok (.getfield 39, 3) := dk_180 0 39 (dk_at dksX1_snapshot_0 2 rfl rfl)
theorem dX1_snapshot_5 : decode cX1_snapshot 5 = .ok (.putfield 388, 3) := dk_181 1 132 (dk_at dksX1_snapshot_0 5 rfl rfl)
theorem dX1_snapshot_8 : decode cX1_snapshot 8 = .ok (.aload_n 0, 1) := dk_42 (dk_at dksX1_snapshot_0 8 rfl rfl)
theorem dX1_snapshot_9 : decode cX1_snapshot 9 = .ok (.getfield 39, 3) := dk_180 0 39 (dk_at dksX1_snapshot_0 9 rfl rfl)
theorem dX1_snapshot_12 : decode cX1_snapshot 12 = .ok (.getfield 315, 3) := dk_180 1 59 (dk_at dksX1_snapshot_0 12 rfl rfl)
theorem dX1_snapshot_15 : decode cX1_snapshot 15 = .ok (.ireturn, 1) := dk_172 (dk_at dksX1_snapshot_0 15 rfl rfl)
abbrev cX1_told : ByteArray := prog_1_method_13_code
def yX1_told : MethodName := ⟨RX1, "told", "(I)I"⟩
def dkwX1_told_0 : List UInt8 := [42, 18, 115, 27, 3, 182, 0, 117, 172]
abbrev dktX1_told_0 : List UInt8 := dkwX1_told_0 ++ []
theorem dksX1_told_0 : cX1_told.data.toList.drop 0 = dktX1_told_0 := by decide +kernel
theorem dX1_told_0 : decode cX1_told 0 = .ok (.aload_n 0, 1) := dk_42 (dk_at dksX1_told_0 0 rfl rfl)
theorem dX1_told_1 : decode cX1_told 1 = .ok (.ldc 115, 2) := dk_18 115 (dk_at dksX1_told_0 1 rfl rfl)
theorem dX1_told_3 : decode cX1_told 3 = .ok (.iload_n 1, 1) := dk_27 (dk_at dksX1_told_0 3 rfl rfl)
theorem dX1_told_4 : decode cX1_told 4 = .ok (.iconst 0, 1) := dk_3 (dk_at dksX1_told_0 4 rfl rfl)
theorem dX1_told_5 : decode cX1_told 5 = .ok (.invokevirtual 117, 3) := dk_182 0 117 (dk_at dksX1_told_0 5 rfl rfl)
theorem dX1_told_8 : decode cX1_told 8 = .ok (.ireturn, 1) := dk_172 (dk_at dksX1_told_0 8 rfl rfl)
abbrev cX1_change : ByteArray := prog_1_method_11_code
def yX1_change : MethodName := ⟨RX1, "change", "(Ljava/lang/String;II)I"⟩
def dkwX1_change_2 : List UInt8 := [182, 0, 101, 21, 5, 172]
abbrev dktX1_change_2 : List UInt8 := dkwX1_change_2 ++ []
def dkwX1_change_1 : List UInt8 := [54, 5, 167, 0, 19, 58, 6, 42, 25, 6, 181, 0, 94, 187, 0, 98, 89, 183, 0, 100, 191, 42, 25, 4]
abbrev dktX1_change_1 : List UInt8 := dkwX1_change_1 ++ dktX1_change_2
def dkwX1_change_0 : List UInt8 := [42, 180, 0, 39, 182, 0, 79, 58, 4, 187, 0, 83, 89, 43, 28, 29, 183, 0, 85, 25, 4, 182, 0, 88]
abbrev dktX1_change_0 : List UInt8 := dkwX1_change_0 ++ dktX1_change_1
theorem dksX1_change_0 : cX1_change.data.toList.drop 0 = dktX1_change_0 := by decide +kernel
theorem dksX1_change_1 : cX1_change.data.toList.drop 24 = dktX1_change_1 := dk_seg dksX1_change_0 24 rfl rfl
theorem dksX1_change_2 : cX1_change.data.toList.drop 48 = dktX1_change_2 := dk_seg dksX1_change_1 24 rfl rfl
theorem dX1_change_0 : decode cX1_change 0 = .ok (.aload_n 0, 1) := dk_42 (dk_at dksX1_change_0 0 rfl rfl)
theorem dX1_change_1 : decode cX1_change 1 = .ok (.getfield 39, 3) := dk_180 0 39 (dk_at dksX1_change_0 1 rfl rfl)
theorem dX1_change_4 : decode cX1_change 4 = .ok (.invokevirtual 79, 3) := dk_182 0 79 (dk_at dksX1_change_0 4 rfl rfl)
theorem dX1_change_7 : decode cX1_change 7 = .ok (.astore 4, 2) := dk_58 4 (dk_at dksX1_change_0 7 rfl rfl)
theorem dX1_change_9 : decode cX1_change 9 = .ok (.new 83, 3) := dk_187 0 83 (dk_at dksX1_change_0 9 rfl rfl)
theorem dX1_change_12 : decode cX1_change 12 = .ok (.dup, 1) := dk_89 (dk_at dksX1_change_0 12 rfl rfl)
theorem dX1_change_13 : decode cX1_change 13 = .ok (.aload_n 1, 1) := dk_43 (dk_at dksX1_change_0 13 rfl rfl)
theorem dX1_change_14 : decode cX1_change 14 = .ok (.iload_n 2, 1) := dk_28 (dk_at dksX1_change_0 14 rfl rfl)
theorem dX1_change_15 : decode cX1_change 15 = .ok (.iload_n 3, 1) := dk_29 (dk_at dksX1_change_0 15 rfl rfl)
theorem dX1_change_16 : decode cX1_change 16 = .ok (.invokespecial 85, 3) := dk_183 0 85 (dk_at dksX1_change_0 16 rfl rfl)
theorem dX1_change_19 : decode cX1_change 19 = .ok (.aload 4, 2) := dk_25 4 (dk_at dksX1_change_0 19 rfl rfl)
theorem dX1_change_21 : decode cX1_change 21 = .ok (.invokevirtual 88, 3) := dk_182 0 88 (dk_at dksX1_change_0 21 rfl rfl)
theorem dX1_change_24 : decode cX1_change 24 = .ok (.istore 5, 2) := dk_54 5 (dk_at dksX1_change_1 0 rfl rfl)
theorem dX1_change_26 : decode cX1_change 26 = .ok (.goto 19, 3) := dk_167 0 19 (dk_at dksX1_change_1 2 rfl rfl)
theorem dX1_change_29 : decode cX1_change 29 = .ok (.astore 6, 2) := dk_58 6 (dk_at dksX1_change_1 5 rfl rfl)
theorem dX1_change_31 : decode cX1_change 31 = .ok (.aload_n 0, 1) := dk_42 (dk_at dksX1_change_1 7 rfl rfl)
theorem dX1_change_32 : decode cX1_change 32 = .ok (.aload 6, 2) := dk_25 6 (dk_at dksX1_change_1 8 rfl rfl)
theorem dX1_change_34 : decode cX1_change 34 = .ok (.putfield 94, 3) := dk_181 0 94 (dk_at dksX1_change_1 10 rfl rfl)
theorem dX1_change_37 : decode cX1_change 37 = .ok (.new 98, 3) := dk_187 0 98 (dk_at dksX1_change_1 13 rfl rfl)
theorem dX1_change_40 : decode cX1_change 40 = .ok (.dup, 1) := dk_89 (dk_at dksX1_change_1 16 rfl rfl)
theorem dX1_change_41 : decode cX1_change 41 = .ok (.invokespecial 100, 3) := dk_183 0 100 (dk_at dksX1_change_1 17 rfl rfl)
theorem dX1_change_44 : decode cX1_change 44 = .ok (.athrow, 1) := dk_191 (dk_at dksX1_change_1 20 rfl rfl)
theorem dX1_change_45 : decode cX1_change 45 = .ok (.aload_n 0, 1) := dk_42 (dk_at dksX1_change_1 21 rfl rfl)
theorem dX1_change_46 : decode cX1_change 46 = .ok (.aload 4, 2) := dk_25 4 (dk_at dksX1_change_1 22 rfl rfl)
theorem dX1_change_48 : decode cX1_change 48 = .ok (.invokevirtual 101, 3) := dk_182 0 101 (dk_at dksX1_change_2 0 rfl rfl)
theorem dX1_change_51 : decode cX1_change 51 = .ok (.iload 5, 2) := dk_21 5 (dk_at dksX1_change_2 3 rfl rfl)
theorem dX1_change_53 : decode cX1_change 53 = .ok (.ireturn, 1) := dk_172 (dk_at dksX1_change_2 5 rfl rfl)
abbrev cX1_inRange : ByteArray := prog_1_method_1_code
def yX1_inRange : MethodName := ⟨RX1, "inRange", "(JJJ)Z"⟩
def dkwX1_inRange_0 : List UInt8 := [30, 32, 148, 155, 0, 14, 30, 22, 4, 148, 157, 0, 7, 4, 167, 0, 4, 3, 172]
abbrev dktX1_inRange_0 : List UInt8 := dkwX1_inRange_0 ++ []
theorem dksX1_inRange_0 : cX1_inRange.data.toList.drop 0 = dktX1_inRange_0 := by decide +kernel
theorem dX1_inRange_0 : decode cX1_inRange 0 = .ok (.lload_n 0, 1) := dk_30 (dk_at dksX1_inRange_0 0 rfl rfl)
theorem dX1_inRange_1 : decode cX1_inRange 1 = .ok (.lload_n 2, 1) := dk_32 (dk_at dksX1_inRange_0 1 rfl rfl)
theorem dX1_inRange_2 : decode cX1_inRange 2 = .ok (.lcmp, 1) := dk_148 (dk_at dksX1_inRange_0 2 rfl rfl)
theorem dX1_inRange_3 : decode cX1_inRange 3 = .ok (.ifCond .lt 14, 3) := dk_155 0 14 (dk_at dksX1_inRange_0 3 rfl rfl)
theorem dX1_inRange_6 : decode cX1_inRange 6 = .ok (.lload_n 0, 1) := dk_30 (dk_at dksX1_inRange_0 6 rfl rfl)
theorem dX1_inRange_7 : decode cX1_inRange 7 = .ok (.lload 4, 2) := dk_22 4 (dk_at dksX1_inRange_0 7 rfl rfl)
theorem dX1_inRange_9 : decode cX1_inRange 9 = .ok (.lcmp, 1) := dk_148 (dk_at dksX1_inRange_0 9 rfl rfl)
theorem dX1_inRange_10 : decode cX1_inRange 10 = .ok (.ifCond .gt 7, 3) := dk_157 0 7 (dk_at dksX1_inRange_0 10 rfl rfl)
theorem dX1_inRange_13 : decode cX1_inRange 13 = .ok (.iconst 1, 1) := dk_4 (dk_at dksX1_inRange_0 13 rfl rfl)
theorem dX1_inRange_14 : decode cX1_inRange 14 = .ok (.goto 4, 3) := dk_167 0 4 (dk_at dksX1_inRange_0 14 rfl rfl)
theorem dX1_inRange_17 : decode cX1_inRange 17 = .ok (.iconst 0, 1) := dk_3 (dk_at dksX1_inRange_0 17 rfl rfl)
theorem dX1_inRange_18 : decode cX1_inRange 18 = .ok (.ireturn, 1) := dk_172 (dk_at dksX1_inRange_0 18 rfl rfl)
abbrev cX1_checkIndex : ByteArray := prog_1_method_3_code
def yX1_checkIndex : MethodName := ⟨RX1, "checkIndex", "(Z)V"⟩
def dkwX1_checkIndex_0 : List UInt8 := [26, 154, 0, 11, 187, 0, 7, 89, 183, 0, 9, 191, 177]
abbrev dktX1_checkIndex_0 : List UInt8 := dkwX1_checkIndex_0 ++ []
theorem dksX1_checkIndex_0 : cX1_checkIndex.data.toList.drop 0 = dktX1_checkIndex_0 := by decide +kernel
theorem dX1_checkIndex_0 : decode cX1_checkIndex 0 = .ok (.iload_n 0, 1) := dk_26 (dk_at dksX1_checkIndex_0 0 rfl rfl)
theorem dX1_checkIndex_1 : decode cX1_checkIndex 1 = .ok (.ifCond .ne 11, 3) := dk_154 0 11 (dk_at dksX1_checkIndex_0 1 rfl rfl)
theorem dX1_checkIndex_4 : decode cX1_checkIndex 4 = .ok (.new 7, 3) := dk_187 0 7 (dk_at dksX1_checkIndex_0 4 rfl rfl)
theorem dX1_checkIndex_7 : decode cX1_checkIndex 7 = .ok (.dup, 1) := dk_89 (dk_at dksX1_checkIndex_0 7 rfl rfl)
theorem dX1_checkIndex_8 : decode cX1_checkIndex 8 = .ok (.invokespecial 9, 3) := dk_183 0 9 (dk_at dksX1_checkIndex_0 8 rfl rfl)
theorem dX1_checkIndex_11 : decode cX1_checkIndex 11 = .ok (.athrow, 1) := dk_191 (dk_at dksX1_checkIndex_0 11 rfl rfl)
theorem dX1_checkIndex_12 : decode cX1_checkIndex 12 = .ok (.return_, 1) := dk_177 (dk_at dksX1_checkIndex_0 12 rfl rfl)
abbrev cX1_checkArgument : ByteArray := prog_1_method_2_code
def yX1_checkArgument : MethodName := ⟨RX1, "checkArgument", "(Z)V"⟩
def dkwX1_checkArgument_0 : List UInt8 := [26, 154, 0, 11, 187, 0, 1, 89, 183, 0, 3, 191, 177]
abbrev dktX1_checkArgument_0 : List UInt8 := dkwX1_checkArgument_0 ++ []
theorem dksX1_checkArgument_0 : cX1_checkArgument.data.toList.drop 0 = dktX1_checkArgument_0 := by decide +kernel
theorem dX1_checkArgument_0 : decode cX1_checkArgument 0 = .ok (.iload_n 0, 1) := dk_26 (dk_at dksX1_checkArgument_0 0 rfl rfl)
theorem dX1_checkArgument_1 : decode cX1_checkArgument 1 = .ok (.ifCond .ne 11, 3) := dk_154 0 11 (dk_at dksX1_checkArgument_0 1 rfl rfl)
theorem dX1_checkArgument_4 : decode cX1_checkArgument 4 = .ok (.new 1, 3) := dk_187 0 1 (dk_at dksX1_checkArgument_0 4 rfl rfl)
theorem dX1_checkArgument_7 : decode cX1_checkArgument 7 = .ok (.dup, 1) := dk_89 (dk_at dksX1_checkArgument_0 7 rfl rfl)
theorem dX1_checkArgument_8 : decode cX1_checkArgument 8 = .ok (.invokespecial 3, 3) := dk_183 0 3 (dk_at dksX1_checkArgument_0 8 rfl rfl)
theorem dX1_checkArgument_11 : decode cX1_checkArgument 11 = .ok (.athrow, 1) := dk_191 (dk_at dksX1_checkArgument_0 11 rfl rfl)
theorem dX1_checkArgument_12 : decode cX1_checkArgument 12 = .ok (.return_, 1) := dk_177 (dk_at dksX1_checkArgument_0 12 rfl rfl)
abbrev cX1_checkHeight : ByteArray := prog_1_method_8_code
def yX1_checkHeight : MethodName := ⟨RX1, "checkHeight", "(I)V"⟩
def dkwX1_checkHeight_0 : List UInt8 := [26, 133, 9, 20, 0, 31, 184, 0, 23, 184, 0, 27, 177]
abbrev dktX1_checkHeight_0 : List UInt8 := dkwX1_checkHeight_0 ++ []
theorem dksX1_checkHeight_0 : cX1_checkHeight.data.toList.drop 0 = dktX1_checkHeight_0 := by decide +kernel
theorem dX1_checkHeight_0 : decode cX1_checkHeight 0 = .ok (.iload_n 0, 1) := dk_26 (dk_at dksX1_checkHeight_0 0 rfl rfl)
theorem dX1_checkHeight_1 : decode cX1_checkHeight 1 = .ok (.i2l, 1) := dk_133 (dk_at dksX1_checkHeight_0 1 rfl rfl)
theorem dX1_checkHeight_2 : decode cX1_checkHeight 2 = .ok (.lconst 0, 1) := dk_9 (dk_at dksX1_checkHeight_0 2 rfl rfl)
theorem dX1_checkHeight_3 : decode cX1_checkHeight 3 = .ok (.ldc2_w 31, 3) := dk_20 0 31 (dk_at dksX1_checkHeight_0 3 rfl rfl)
theorem dX1_checkHeight_6 : decode cX1_checkHeight 6 = .ok (.invokestatic 23, 3) := dk_184 0 23 (dk_at dksX1_checkHeight_0 6 rfl rfl)
theorem dX1_checkHeight_9 : decode cX1_checkHeight 9 = .ok (.invokestatic 27, 3) := dk_184 0 27 (dk_at dksX1_checkHeight_0 9 rfl rfl)
theorem dX1_checkHeight_12 : decode cX1_checkHeight 12 = .ok (.return_, 1) := dk_177 (dk_at dksX1_checkHeight_0 12 rfl rfl)
abbrev cX1_checkState : ByteArray := prog_1_method_4_code
def yX1_checkState : MethodName := ⟨RX1, "checkState", "(Z)V"⟩
def dkwX1_checkState_0 : List UInt8 := [26, 154, 0, 11, 187, 0, 10, 89, 183, 0, 12, 191, 177]
abbrev dktX1_checkState_0 : List UInt8 := dkwX1_checkState_0 ++ []
theorem dksX1_checkState_0 : cX1_checkState.data.toList.drop 0 = dktX1_checkState_0 := by decide +kernel
theorem dX1_checkState_0 : decode cX1_checkState 0 = .ok (.iload_n 0, 1) := dk_26 (dk_at dksX1_checkState_0 0 rfl rfl)
theorem dX1_checkState_1 : decode cX1_checkState 1 = .ok (.ifCond .ne 11, 3) := dk_154 0 11 (dk_at dksX1_checkState_0 1 rfl rfl)
theorem dX1_checkState_4 : decode cX1_checkState 4 = .ok (.new 10, 3) := dk_187 0 10 (dk_at dksX1_checkState_0 4 rfl rfl)
theorem dX1_checkState_7 : decode cX1_checkState 7 = .ok (.dup, 1) := dk_89 (dk_at dksX1_checkState_0 7 rfl rfl)
theorem dX1_checkState_8 : decode cX1_checkState 8 = .ok (.invokespecial 12, 3) := dk_183 0 12 (dk_at dksX1_checkState_0 8 rfl rfl)
theorem dX1_checkState_11 : decode cX1_checkState 11 = .ok (.athrow, 1) := dk_191 (dk_at dksX1_checkState_0 11 rfl rfl)
theorem dX1_checkState_12 : decode cX1_checkState 12 = .ok (.return_, 1) := dk_177 (dk_at dksX1_checkState_0 12 rfl rfl)
abbrev cX1_checkFloor : ByteArray := prog_1_method_7_code
def yX1_checkFloor : MethodName := ⟨RX1, "checkFloor", "(I)V"⟩
def dkwX1_checkFloor_0 : List UInt8 := [26, 133, 9, 20, 0, 21, 184, 0, 23, 184, 0, 27, 177]
abbrev dktX1_checkFloor_0 : List UInt8 := dkwX1_checkFloor_0 ++ []
theorem dksX1_checkFloor_0 : cX1_checkFloor.data.toList.drop 0 = dktX1_checkFloor_0 := by decide +kernel
theorem dX1_checkFloor_0 : decode cX1_checkFloor 0 = .ok (.iload_n 0, 1) := dk_26 (dk_at dksX1_checkFloor_0 0 rfl rfl)
theorem dX1_checkFloor_1 : decode cX1_checkFloor 1 = .ok (.i2l, 1) := dk_133 (dk_at dksX1_checkFloor_0 1 rfl rfl)
theorem dX1_checkFloor_2 : decode cX1_checkFloor 2 = .ok (.lconst 0, 1) := dk_9 (dk_at dksX1_checkFloor_0 2 rfl rfl)
theorem dX1_checkFloor_3 : decode cX1_checkFloor 3 = .ok (.ldc2_w 21, 3) := dk_20 0 21 (dk_at dksX1_checkFloor_0 3 rfl rfl)
theorem dX1_checkFloor_6 : decode cX1_checkFloor 6 = .ok (.invokestatic 23, 3) := dk_184 0 23 (dk_at dksX1_checkFloor_0 6 rfl rfl)
theorem dX1_checkFloor_9 : decode cX1_checkFloor 9 = .ok (.invokestatic 27, 3) := dk_184 0 27 (dk_at dksX1_checkFloor_0 9 rfl rfl)
theorem dX1_checkFloor_12 : decode cX1_checkFloor 12 = .ok (.return_, 1) := dk_177 (dk_at dksX1_checkFloor_0 12 rfl rfl)
abbrev cX1_become : ByteArray := prog_1_method_10_code
def yX1_become : MethodName := ⟨RX1, "become", "(LCurtainRiggers$Theatre;)V"⟩
def dkwX1_become_1 : List UInt8 := [180, 0, 46, 42, 180, 0, 39, 182, 0, 75, 42, 43, 181, 0, 39, 177]
abbrev dktX1_become_1 : List UInt8 := dkwX1_become_1 ++ []
def dkwX1_become_0 : List UInt8 := [42, 180, 0, 46, 182, 0, 67, 16, 8, 160, 0, 14, 42, 180, 0, 46, 182, 0, 71, 192, 0, 36, 77, 42]
abbrev dktX1_become_0 : List UInt8 := dkwX1_become_0 ++ dktX1_become_1
theorem dksX1_become_0 : cX1_become.data.toList.drop 0 = dktX1_become_0 := by decide +kernel
theorem dksX1_become_1 : cX1_become.data.toList.drop 24 = dktX1_become_1 := dk_seg dksX1_become_0 24 rfl rfl
theorem dX1_become_0 : decode cX1_become 0 = .ok (.aload_n 0, 1) := dk_42 (dk_at dksX1_become_0 0 rfl rfl)
theorem dX1_become_1 : decode cX1_become 1 = .ok (.getfield 46, 3) := dk_180 0 46 (dk_at dksX1_become_0 1 rfl rfl)
theorem dX1_become_4 : decode cX1_become 4 = .ok (.invokevirtual 67, 3) := dk_182 0 67 (dk_at dksX1_become_0 4 rfl rfl)
theorem dX1_become_7 : decode cX1_become 7 = .ok (.bipush 8, 2) := dk_16 8 (dk_at dksX1_become_0 7 rfl rfl)
theorem dX1_become_9 : decode cX1_become 9 = .ok (.if_icmp .ne 14, 3) := dk_160 0 14 (dk_at dksX1_become_0 9 rfl rfl)
theorem dX1_become_12 : decode cX1_become 12 = .ok (.aload_n 0, 1) := dk_42 (dk_at dksX1_become_0 12 rfl rfl)
theorem dX1_become_13 : decode cX1_become 13 = .ok (.getfield 46, 3) := dk_180 0 46 (dk_at dksX1_become_0 13 rfl rfl)
theorem dX1_become_16 : decode cX1_become 16 = .ok (.invokevirtual 71, 3) := dk_182 0 71 (dk_at dksX1_become_0 16 rfl rfl)
theorem dX1_become_19 : decode cX1_become 19 = .ok (.checkcast 36, 3) := dk_192 0 36 (dk_at dksX1_become_0 19 rfl rfl)
theorem dX1_become_22 : decode cX1_become 22 = .ok (.astore_n 2, 1) := dk_77 (dk_at dksX1_become_0 22 rfl rfl)
theorem dX1_become_23 : decode cX1_become 23 = .ok (.aload_n 0, 1) := dk_42 (dk_at dksX1_become_0 23 rfl rfl)
theorem dX1_become_24 : decode cX1_become 24 = .ok (.getfield 46, 3) := dk_180 0 46 (dk_at dksX1_become_1 0 rfl rfl)
theorem dX1_become_27 : decode cX1_become 27 = .ok (.aload_n 0, 1) := dk_42 (dk_at dksX1_become_1 3 rfl rfl)
theorem dX1_become_28 : decode cX1_become 28 = .ok (.getfield 39, 3) := dk_180 0 39 (dk_at dksX1_become_1 4 rfl rfl)
theorem dX1_become_31 : decode cX1_become 31 = .ok (.invokevirtual 75, 3) := dk_182 0 75 (dk_at dksX1_become_1 7 rfl rfl)
theorem dX1_become_34 : decode cX1_become 34 = .ok (.aload_n 0, 1) := dk_42 (dk_at dksX1_become_1 10 rfl rfl)
theorem dX1_become_35 : decode cX1_become 35 = .ok (.aload_n 1, 1) := dk_43 (dk_at dksX1_become_1 11 rfl rfl)
theorem dX1_become_36 : decode cX1_become 36 = .ok (.putfield 39, 3) := dk_181 0 39 (dk_at dksX1_become_1 12 rfl rfl)
theorem dX1_become_39 : decode cX1_become 39 = .ok (.return_, 1) := dk_177 (dk_at dksX1_become_1 15 rfl rfl)
abbrev cX1_bar : ByteArray := prog_1_method_14_code
def yX1_bar : MethodName := ⟨RX1, "bar", "()I"⟩
def dkwX1_bar_0 : List UInt8 := [42, 18, 121, 3, 3, 182, 0, 117, 172]
abbrev dktX1_bar_0 : List UInt8 := dkwX1_bar_0 ++ []
theorem dksX1_bar_0 : cX1_bar.data.toList.drop 0 = dktX1_bar_0 := by decide +kernel
theorem dX1_bar_0 : decode cX1_bar 0 = .ok (.aload_n 0, 1) := dk_42 (dk_at dksX1_bar_0 0 rfl rfl)
theorem dX1_bar_1 : decode cX1_bar 1 = .ok (.ldc 121, 2) := dk_18 121 (dk_at dksX1_bar_0 1 rfl rfl)
theorem dX1_bar_3 : decode cX1_bar 3 = .ok (.iconst 0, 1) := dk_3 (dk_at dksX1_bar_0 3 rfl rfl)
theorem dX1_bar_4 : decode cX1_bar 4 = .ok (.iconst 0, 1) := dk_3 (dk_at dksX1_bar_0 4 rfl rfl)
theorem dX1_bar_5 : decode cX1_bar 5 = .ok (.invokevirtual 117, 3) := dk_182 0 117 (dk_at dksX1_bar_0 5 rfl rfl)
theorem dX1_bar_8 : decode cX1_bar 8 = .ok (.ireturn, 1) := dk_172 (dk_at dksX1_bar_0 8 rfl rfl)
abbrev cX1_barOf : ByteArray := prog_1_method_15_code
def yX1_barOf : MethodName := ⟨RX1, "barOf", "(II)I"⟩
def dkwX1_barOf_4 : List UInt8 := [89, 183, 0, 3, 191]
abbrev dktX1_barOf_4 : List UInt8 := dkwX1_barOf_4 ++ []
def dkwX1_barOf_3 : List UInt8 := [172, 45, 182, 0, 143, 172, 45, 182, 0, 146, 172, 45, 180, 0, 149, 172, 45, 180, 0, 152, 172, 187, 0, 1]
abbrev dktX1_barOf_3 : List UInt8 := dkwX1_barOf_3 ++ dktX1_barOf_4
def dkwX1_barOf_2 : List UInt8 := [45, 180, 0, 126, 172, 45, 180, 0, 131, 172, 45, 180, 0, 134, 172, 45, 182, 0, 137, 172, 45, 180, 0, 140]
abbrev dktX1_barOf_2 : List UInt8 := dkwX1_barOf_2 ++ dktX1_barOf_3
def dkwX1_barOf_1 : List UInt8 := [170, 0, 0, 0, 0, 95, 0, 0, 0, 0, 0, 0, 0, 8, 0, 0, 0, 50, 0, 0, 0, 55, 0, 0, 0, 60, 0, 0, 0, 65, 0, 0, 0, 70, 0, 0, 0, 75, 0, 0, 0, 80, 0, 0, 0, 85, 0, 0, 0, 90]
abbrev dktX1_barOf_1 : List UInt8 := dkwX1_barOf_1 ++ dktX1_barOf_2
def dkwX1_barOf_0 : List UInt8 := [42, 180, 0, 39, 27, 182, 0, 123, 78, 28]
abbrev dktX1_barOf_0 : List UInt8 := dkwX1_barOf_0 ++ dktX1_barOf_1
theorem dksX1_barOf_0 : cX1_barOf.data.toList.drop 0 = dktX1_barOf_0 := by decide +kernel
theorem dksX1_barOf_1 : cX1_barOf.data.toList.drop 10 = dktX1_barOf_1 := dk_seg dksX1_barOf_0 10 rfl rfl
theorem dksX1_barOf_2 : cX1_barOf.data.toList.drop 60 = dktX1_barOf_2 := dk_seg dksX1_barOf_1 50 rfl rfl
theorem dksX1_barOf_3 : cX1_barOf.data.toList.drop 84 = dktX1_barOf_3 := dk_seg dksX1_barOf_2 24 rfl rfl
theorem dksX1_barOf_4 : cX1_barOf.data.toList.drop 108 = dktX1_barOf_4 := dk_seg dksX1_barOf_3 24 rfl rfl
theorem dX1_barOf_0 : decode cX1_barOf 0 = .ok (.aload_n 0, 1) := dk_42 (dk_at dksX1_barOf_0 0 rfl rfl)
theorem dX1_barOf_1 : decode cX1_barOf 1 = .ok (.getfield 39, 3) := dk_180 0 39 (dk_at dksX1_barOf_0 1 rfl rfl)
theorem dX1_barOf_4 : decode cX1_barOf 4 = .ok (.iload_n 1, 1) := dk_27 (dk_at dksX1_barOf_0 4 rfl rfl)
theorem dX1_barOf_5 : decode cX1_barOf 5 = .ok (.invokevirtual 123, 3) := dk_182 0 123 (dk_at dksX1_barOf_0 5 rfl rfl)
theorem dX1_barOf_8 : decode cX1_barOf 8 = .ok (.astore_n 3, 1) := dk_78 (dk_at dksX1_barOf_0 8 rfl rfl)
theorem dX1_barOf_9 : decode cX1_barOf 9 = .ok (.iload_n 2, 1) := dk_28 (dk_at dksX1_barOf_0 9 rfl rfl)
theorem dX1_barOf_10 : decode cX1_barOf 10 = .ok (.tableswitch 95 0 8 #[50, 55, 60, 65, 70, 75, 80, 85, 90], 50) := by decide +kernel
theorem dX1_barOf_60 : decode cX1_barOf 60 = .ok (.aload_n 3, 1) := dk_45 (dk_at dksX1_barOf_2 0 rfl rfl)
theorem dX1_barOf_61 : decode cX1_barOf 61 = .ok (.getfield 126, 3) := dk_180 0 126 (dk_at dksX1_barOf_2 1 rfl rfl)
theorem dX1_barOf_64 : decode cX1_barOf 64 = .ok (.ireturn, 1) := dk_172 (dk_at dksX1_barOf_2 4 rfl rfl)
theorem dX1_barOf_65 : decode cX1_barOf 65 = .ok (.aload_n 3, 1) := dk_45 (dk_at dksX1_barOf_2 5 rfl rfl)
theorem dX1_barOf_66 : decode cX1_barOf 66 = .ok (.getfield 131, 3) := dk_180 0 131 (dk_at dksX1_barOf_2 6 rfl rfl)
theorem dX1_barOf_69 : decode cX1_barOf 69 = .ok (.ireturn, 1) := dk_172 (dk_at dksX1_barOf_2 9 rfl rfl)
theorem dX1_barOf_70 : decode cX1_barOf 70 = .ok (.aload_n 3, 1) := dk_45 (dk_at dksX1_barOf_2 10 rfl rfl)
theorem dX1_barOf_71 : decode cX1_barOf 71 = .ok (.getfield 134, 3) := dk_180 0 134 (dk_at dksX1_barOf_2 11 rfl rfl)
theorem dX1_barOf_74 : decode cX1_barOf 74 = .ok (.ireturn, 1) := dk_172 (dk_at dksX1_barOf_2 14 rfl rfl)
theorem dX1_barOf_75 : decode cX1_barOf 75 = .ok (.aload_n 3, 1) := dk_45 (dk_at dksX1_barOf_2 15 rfl rfl)
theorem dX1_barOf_76 : decode cX1_barOf 76 = .ok (.invokevirtual 137, 3) := dk_182 0 137 (dk_at dksX1_barOf_2 16 rfl rfl)
theorem dX1_barOf_79 : decode cX1_barOf 79 = .ok (.ireturn, 1) := dk_172 (dk_at dksX1_barOf_2 19 rfl rfl)
theorem dX1_barOf_80 : decode cX1_barOf 80 = .ok (.aload_n 3, 1) := dk_45 (dk_at dksX1_barOf_2 20 rfl rfl)
theorem dX1_barOf_81 : decode cX1_barOf 81 = .ok (.getfield 140, 3) := dk_180 0 140 (dk_at dksX1_barOf_2 21 rfl rfl)
theorem dX1_barOf_84 : decode cX1_barOf 84 = .ok (.ireturn, 1) := dk_172 (dk_at dksX1_barOf_3 0 rfl rfl)
theorem dX1_barOf_85 : decode cX1_barOf 85 = .ok (.aload_n 3, 1) := dk_45 (dk_at dksX1_barOf_3 1 rfl rfl)
theorem dX1_barOf_86 : decode cX1_barOf 86 = .ok (.invokevirtual 143, 3) := dk_182 0 143 (dk_at dksX1_barOf_3 2 rfl rfl)
theorem dX1_barOf_89 : decode cX1_barOf 89 = .ok (.ireturn, 1) := dk_172 (dk_at dksX1_barOf_3 5 rfl rfl)
theorem dX1_barOf_90 : decode cX1_barOf 90 = .ok (.aload_n 3, 1) := dk_45 (dk_at dksX1_barOf_3 6 rfl rfl)
theorem dX1_barOf_91 : decode cX1_barOf 91 = .ok (.invokevirtual 146, 3) := dk_182 0 146 (dk_at dksX1_barOf_3 7 rfl rfl)
theorem dX1_barOf_94 : decode cX1_barOf 94 = .ok (.ireturn, 1) := dk_172 (dk_at dksX1_barOf_3 10 rfl rfl)
theorem dX1_barOf_95 : decode cX1_barOf 95 = .ok (.aload_n 3, 1) := dk_45 (dk_at dksX1_barOf_3 11 rfl rfl)
theorem dX1_barOf_96 : decode cX1_barOf 96 = .ok (.getfield 149, 3) := dk_180 0 149 (dk_at dksX1_barOf_3 12 rfl rfl)
theorem dX1_barOf_99 : decode cX1_barOf 99 = .ok (.ireturn, 1) := dk_172 (dk_at dksX1_barOf_3 15 rfl rfl)
theorem dX1_barOf_100 : decode cX1_barOf 100 = .ok (.aload_n 3, 1) := dk_45 (dk_at dksX1_barOf_3 16 rfl rfl)
theorem dX1_barOf_101 : decode cX1_barOf 101 = .ok (.getfield 152, 3) := dk_180 0 152 (dk_at dksX1_barOf_3 17 rfl rfl)
theorem dX1_barOf_104 : decode cX1_barOf 104 = .ok (.ireturn, 1) := dk_172 (dk_at dksX1_barOf_3 20 rfl rfl)
theorem dX1_barOf_105 : decode cX1_barOf 105 = .ok (.new 1, 3) := dk_187 0 1 (dk_at dksX1_barOf_3 21 rfl rfl)
theorem dX1_barOf_108 : decode cX1_barOf 108 = .ok (.dup, 1) := dk_89 (dk_at dksX1_barOf_4 0 rfl rfl)
theorem dX1_barOf_109 : decode cX1_barOf 109 = .ok (.invokespecial 3, 3) := dk_183 0 3 (dk_at dksX1_barOf_4 1 rfl rfl)
theorem dX1_barOf_112 : decode cX1_barOf 112 = .ok (.athrow, 1) := dk_191 (dk_at dksX1_barOf_4 4 rfl rfl)
abbrev cX1_rope : ByteArray := prog_1_method_16_code
def yX1_rope : MethodName := ⟨RX1, "rope", "(I)I"⟩
def dkwX1_rope_0 : List UInt8 := [42, 18, 155, 27, 3, 182, 0, 117, 172]
abbrev dktX1_rope_0 : List UInt8 := dkwX1_rope_0 ++ []
theorem dksX1_rope_0 : cX1_rope.data.toList.drop 0 = dktX1_rope_0 := by decide +kernel
theorem dX1_rope_0 : decode cX1_rope 0 = .ok (.aload_n 0, 1) := dk_42 (dk_at dksX1_rope_0 0 rfl rfl)
theorem dX1_rope_1 : decode cX1_rope 1 = .ok (.ldc 155, 2) := dk_18 155 (dk_at dksX1_rope_0 1 rfl rfl)
theorem dX1_rope_3 : decode cX1_rope 3 = .ok (.iload_n 1, 1) := dk_27 (dk_at dksX1_rope_0 3 rfl rfl)
theorem dX1_rope_4 : decode cX1_rope 4 = .ok (.iconst 0, 1) := dk_3 (dk_at dksX1_rope_0 4 rfl rfl)
theorem dX1_rope_5 : decode cX1_rope 5 = .ok (.invokevirtual 117, 3) := dk_182 0 117 (dk_at dksX1_rope_0 5 rfl rfl)
theorem dX1_rope_8 : decode cX1_rope 8 = .ok (.ireturn, 1) := dk_172 (dk_at dksX1_rope_0 8 rfl rfl)
abbrev cX1_year : ByteArray := prog_1_method_17_code
def yX1_year : MethodName := ⟨RX1, "year", "(I)I"⟩
def dkwX1_year_0 : List UInt8 := [42, 18, 157, 27, 3, 182, 0, 117, 172]
abbrev dktX1_year_0 : List UInt8 := dkwX1_year_0 ++ []
theorem dksX1_year_0 : cX1_year.data.toList.drop 0 = dktX1_year_0 := by decide +kernel
theorem dX1_year_0 : decode cX1_year 0 = .ok (.aload_n 0, 1) := dk_42 (dk_at dksX1_year_0 0 rfl rfl)
theorem dX1_year_1 : decode cX1_year 1 = .ok (.ldc 157, 2) := dk_18 157 (dk_at dksX1_year_0 1 rfl rfl)
theorem dX1_year_3 : decode cX1_year 3 = .ok (.iload_n 1, 1) := dk_27 (dk_at dksX1_year_0 3 rfl rfl)
theorem dX1_year_4 : decode cX1_year 4 = .ok (.iconst 0, 1) := dk_3 (dk_at dksX1_year_0 4 rfl rfl)
theorem dX1_year_5 : decode cX1_year 5 = .ok (.invokevirtual 117, 3) := dk_182 0 117 (dk_at dksX1_year_0 5 rfl rfl)
theorem dX1_year_8 : decode cX1_year 8 = .ok (.ireturn, 1) := dk_172 (dk_at dksX1_year_0 8 rfl rfl)
abbrev cX1_curtain : ByteArray := prog_1_method_18_code
def yX1_curtain : MethodName := ⟨RX1, "curtain", "(I)I"⟩
def dkwX1_curtain_0 : List UInt8 := [42, 18, 159, 27, 3, 182, 0, 117, 172]
abbrev dktX1_curtain_0 : List UInt8 := dkwX1_curtain_0 ++ []
theorem dksX1_curtain_0 : cX1_curtain.data.toList.drop 0 = dktX1_curtain_0 := by decide +kernel
theorem dX1_curtain_0 : decode cX1_curtain 0 = .ok (.aload_n 0, 1) := dk_42 (dk_at dksX1_curtain_0 0 rfl rfl)
theorem dX1_curtain_1 : decode cX1_curtain 1 = .ok (.ldc 159, 2) := dk_18 159 (dk_at dksX1_curtain_0 1 rfl rfl)
theorem dX1_curtain_3 : decode cX1_curtain 3 = .ok (.iload_n 1, 1) := dk_27 (dk_at dksX1_curtain_0 3 rfl rfl)
theorem dX1_curtain_4 : decode cX1_curtain 4 = .ok (.iconst 0, 1) := dk_3 (dk_at dksX1_curtain_0 4 rfl rfl)
theorem dX1_curtain_5 : decode cX1_curtain 5 = .ok (.invokevirtual 117, 3) := dk_182 0 117 (dk_at dksX1_curtain_0 5 rfl rfl)
theorem dX1_curtain_8 : decode cX1_curtain 8 = .ok (.ireturn, 1) := dk_172 (dk_at dksX1_curtain_0 8 rfl rfl)
abbrev cX1_barOfCurtain : ByteArray := prog_1_method_19_code
def yX1_barOfCurtain : MethodName := ⟨RX1, "barOfCurtain", "(I)I"⟩
def dkwX1_barOfCurtain_0 : List UInt8 := [42, 180, 0, 39, 27, 182, 0, 161, 180, 0, 164, 172]
abbrev dktX1_barOfCurtain_0 : List UInt8 := dkwX1_barOfCurtain_0 ++ []
theorem dksX1_barOfCurtain_0 : cX1_barOfCurtain.data.toList.drop 0 = dktX1_barOfCurtain_0 := by decide +kernel
theorem dX1_barOfCurtain_0 : decode cX1_barOfCurtain 0 = .ok (.aload_n 0, 1) := dk_42 (dk_at dksX1_barOfCurtain_0 0 rfl rfl)
theorem dX1_barOfCurtain_1 : decode cX1_barOfCurtain 1 = .ok (.getfield 39, 3) := dk_180 0 39 (dk_at dksX1_barOfCurtain_0 1 rfl rfl)
theorem dX1_barOfCurtain_4 : decode cX1_barOfCurtain 4 = .ok (.iload_n 1, 1) := dk_27 (dk_at dksX1_barOfCurtain_0 4 rfl rfl)
theorem dX1_barOfCurtain_5 : decode cX1_barOfCurtain 5 = .ok (.invokevirtual 161, 3) := dk_182 0 161 (dk_at dksX1_barOfCurtain_0 5 rfl rfl)
theorem dX1_barOfCurtain_8 : decode cX1_barOfCurtain 8 = .ok (.getfield 164, 3) := dk_180 0 164 (dk_at dksX1_barOfCurtain_0 8 rfl rfl)
theorem dX1_barOfCurtain_11 : decode cX1_barOfCurtain 11 = .ok (.ireturn, 1) := dk_172 (dk_at dksX1_barOfCurtain_0 11 rfl rfl)
abbrev cX1_curtainOn : ByteArray := prog_1_method_20_code
def yX1_curtainOn : MethodName := ⟨RX1, "curtainOn", "(II)I"⟩
def dkwX1_curtainOn_3 : List UInt8 := [187, 0, 13, 89, 183, 0, 15, 191]
abbrev dktX1_curtainOn_3 : List UInt8 := dkwX1_curtainOn_3 ++ []
def dkwX1_curtainOn_2 : List UInt8 := [192, 0, 165, 58, 6, 21, 4, 28, 160, 0, 9, 25, 6, 180, 0, 190, 172, 132, 4, 1, 167, 255, 219]
abbrev dktX1_curtainOn_2 : List UInt8 := dkwX1_curtainOn_2 ++ dktX1_curtainOn_3
def dkwX1_curtainOn_1 : List UInt8 := [185, 0, 175, 1, 0, 58, 5, 25, 5, 185, 0, 181, 1, 0, 153, 0, 33, 25, 5, 185, 0, 187, 1, 0]
abbrev dktX1_curtainOn_1 : List UInt8 := dkwX1_curtainOn_1 ++ dktX1_curtainOn_2
def dkwX1_curtainOn_0 : List UInt8 := [42, 180, 0, 39, 27, 182, 0, 123, 78, 3, 54, 4, 42, 180, 0, 39, 45, 180, 0, 168, 182, 0, 171]
abbrev dktX1_curtainOn_0 : List UInt8 := dkwX1_curtainOn_0 ++ dktX1_curtainOn_1
theorem dksX1_curtainOn_0 : cX1_curtainOn.data.toList.drop 0 = dktX1_curtainOn_0 := by decide +kernel
theorem dksX1_curtainOn_1 : cX1_curtainOn.data.toList.drop 23 = dktX1_curtainOn_1 := dk_seg dksX1_curtainOn_0 23 rfl rfl
theorem dksX1_curtainOn_2 : cX1_curtainOn.data.toList.drop 47 = dktX1_curtainOn_2 := dk_seg dksX1_curtainOn_1 24 rfl rfl
theorem dksX1_curtainOn_3 : cX1_curtainOn.data.toList.drop 70 = dktX1_curtainOn_3 := dk_seg dksX1_curtainOn_2 23 rfl rfl
theorem dX1_curtainOn_0 : decode cX1_curtainOn 0 = .ok (.aload_n 0, 1) := dk_42 (dk_at dksX1_curtainOn_0 0 rfl rfl)
theorem dX1_curtainOn_1 : decode cX1_curtainOn 1 = .ok (.getfield 39, 3) := dk_180 0 39 (dk_at dksX1_curtainOn_0 1 rfl rfl)
theorem dX1_curtainOn_4 : decode cX1_curtainOn 4 = .ok (.iload_n 1, 1) := dk_27 (dk_at dksX1_curtainOn_0 4 rfl rfl)
theorem dX1_curtainOn_5 : decode cX1_curtainOn 5 = .ok (.invokevirtual 123, 3) := dk_182 0 123 (dk_at dksX1_curtainOn_0 5 rfl rfl)
theorem dX1_curtainOn_8 : decode cX1_curtainOn 8 = .ok (.astore_n 3, 1) := dk_78 (dk_at dksX1_curtainOn_0 8 rfl rfl)
theorem dX1_curtainOn_9 : decode cX1_curtainOn 9 = .ok (.iconst 0, 1) := dk_3 (dk_at dksX1_curtainOn_0 9 rfl rfl)
theorem dX1_curtainOn_10 : decode cX1_curtainOn 10 = .ok (.istore 4, 2) := dk_54 4 (dk_at dksX1_curtainOn_0 10 rfl rfl)
theorem dX1_curtainOn_12 : decode cX1_curtainOn 12 = .ok (.aload_n 0, 1) := dk_42 (dk_at dksX1_curtainOn_0 12 rfl rfl)
theorem dX1_curtainOn_13 : decode cX1_curtainOn 13 = .ok (.getfield 39, 3) := dk_180 0 39 (dk_at dksX1_curtainOn_0 13 rfl rfl)
theorem dX1_curtainOn_16 : decode cX1_curtainOn 16 = .ok (.aload_n 3, 1) := dk_45 (dk_at dksX1_curtainOn_0 16 rfl rfl)
theorem dX1_curtainOn_17 : decode cX1_curtainOn 17 = .ok (.getfield 168, 3) := dk_180 0 168 (dk_at dksX1_curtainOn_0 17 rfl rfl)
theorem dX1_curtainOn_20 : decode cX1_curtainOn 20 = .ok (.invokevirtual 171, 3) := dk_182 0 171 (dk_at dksX1_curtainOn_0 20 rfl rfl)
theorem dX1_curtainOn_23 : decode cX1_curtainOn 23 = .ok (.invokeinterface 175 1, 5) := by decide +kernel
theorem dX1_curtainOn_28 : decode cX1_curtainOn 28 = .ok (.astore 5, 2) := dk_58 5 (dk_at dksX1_curtainOn_1 5 rfl rfl)
theorem dX1_curtainOn_30 : decode cX1_curtainOn 30 = .ok (.aload 5, 2) := dk_25 5 (dk_at dksX1_curtainOn_1 7 rfl rfl)
theorem dX1_curtainOn_32 : decode cX1_curtainOn 32 = .ok (.invokeinterface 181 1, 5) := by decide +kernel
theorem dX1_curtainOn_37 : decode cX1_curtainOn 37 = .ok (.ifCond .eq 33, 3) := dk_153 0 33 (dk_at dksX1_curtainOn_1 14 rfl rfl)
theorem dX1_curtainOn_40 : decode cX1_curtainOn 40 = .ok (.aload 5, 2) := dk_25 5 (dk_at dksX1_curtainOn_1 17 rfl rfl)
theorem dX1_curtainOn_42 : decode cX1_curtainOn 42 = .ok (.invokeinterface 187 1, 5) := by decide +kernel
theorem dX1_curtainOn_47 : decode cX1_curtainOn 47 = .ok (.checkcast 165, 3) := dk_192 0 165 (dk_at dksX1_curtainOn_2 0 rfl rfl)
theorem dX1_curtainOn_50 : decode cX1_curtainOn 50 = .ok (.astore 6, 2) := dk_58 6 (dk_at dksX1_curtainOn_2 3 rfl rfl)
theorem dX1_curtainOn_52 : decode cX1_curtainOn 52 = .ok (.iload 4, 2) := dk_21 4 (dk_at dksX1_curtainOn_2 5 rfl rfl)
theorem dX1_curtainOn_54 : decode cX1_curtainOn 54 = .ok (.iload_n 2, 1) := dk_28 (dk_at dksX1_curtainOn_2 7 rfl rfl)
theorem dX1_curtainOn_55 : decode cX1_curtainOn 55 = .ok (.if_icmp .ne 9, 3) := dk_160 0 9 (dk_at dksX1_curtainOn_2 8 rfl rfl)
theorem dX1_curtainOn_58 : decode cX1_curtainOn 58 = .ok (.aload 6, 2) := dk_25 6 (dk_at dksX1_curtainOn_2 11 rfl rfl)
theorem dX1_curtainOn_60 : decode cX1_curtainOn 60 = .ok (.getfield 190, 3) := dk_180 0 190 (dk_at dksX1_curtainOn_2 13 rfl rfl)
theorem dX1_curtainOn_63 : decode cX1_curtainOn 63 = .ok (.ireturn, 1) := dk_172 (dk_at dksX1_curtainOn_2 16 rfl rfl)
theorem dX1_curtainOn_64 : decode cX1_curtainOn 64 = .ok (.iinc 4 1, 3) := dk_132 4 1 (dk_at dksX1_curtainOn_2 17 rfl rfl)
theorem dX1_curtainOn_67 : decode cX1_curtainOn 67 = .ok (.goto (-37), 3) := dk_167 255 219 (dk_at dksX1_curtainOn_2 20 rfl rfl)
theorem dX1_curtainOn_70 : decode cX1_curtainOn 70 = .ok (.new 13, 3) := dk_187 0 13 (dk_at dksX1_curtainOn_3 0 rfl rfl)
theorem dX1_curtainOn_73 : decode cX1_curtainOn 73 = .ok (.dup, 1) := dk_89 (dk_at dksX1_curtainOn_3 3 rfl rfl)
theorem dX1_curtainOn_74 : decode cX1_curtainOn 74 = .ok (.invokespecial 15, 3) := dk_183 0 15 (dk_at dksX1_curtainOn_3 4 rfl rfl)
theorem dX1_curtainOn_77 : decode cX1_curtainOn 77 = .ok (.athrow, 1) := dk_191 (dk_at dksX1_curtainOn_3 7 rfl rfl)
abbrev cX1_hang : ByteArray := prog_1_method_21_code
def yX1_hang : MethodName := ⟨RX1, "hang", "(II)I"⟩
def dkwX1_hang_0 : List UInt8 := [42, 18, 191, 27, 28, 182, 0, 117, 172]
abbrev dktX1_hang_0 : List UInt8 := dkwX1_hang_0 ++ []
theorem dksX1_hang_0 : cX1_hang.data.toList.drop 0 = dktX1_hang_0 := by decide +kernel
theorem dX1_hang_0 : decode cX1_hang 0 = .ok (.aload_n 0, 1) := dk_42 (dk_at dksX1_hang_0 0 rfl rfl)
theorem dX1_hang_1 : decode cX1_hang 1 = .ok (.ldc 191, 2) := dk_18 191 (dk_at dksX1_hang_0 1 rfl rfl)
theorem dX1_hang_3 : decode cX1_hang 3 = .ok (.iload_n 1, 1) := dk_27 (dk_at dksX1_hang_0 3 rfl rfl)
theorem dX1_hang_4 : decode cX1_hang 4 = .ok (.iload_n 2, 1) := dk_28 (dk_at dksX1_hang_0 4 rfl rfl)
theorem dX1_hang_5 : decode cX1_hang 5 = .ok (.invokevirtual 117, 3) := dk_182 0 117 (dk_at dksX1_hang_0 5 rfl rfl)
theorem dX1_hang_8 : decode cX1_hang 8 = .ok (.ireturn, 1) := dk_172 (dk_at dksX1_hang_0 8 rfl rfl)
abbrev cX1_drop : ByteArray := prog_1_method_22_code
def yX1_drop : MethodName := ⟨RX1, "drop", "(I)I"⟩
def dkwX1_drop_0 : List UInt8 := [42, 18, 193, 27, 3, 182, 0, 117, 172]
abbrev dktX1_drop_0 : List UInt8 := dkwX1_drop_0 ++ []
theorem dksX1_drop_0 : cX1_drop.data.toList.drop 0 = dktX1_drop_0 := by decide +kernel
theorem dX1_drop_0 : decode cX1_drop 0 = .ok (.aload_n 0, 1) := dk_42 (dk_at dksX1_drop_0 0 rfl rfl)
theorem dX1_drop_1 : decode cX1_drop 1 = .ok (.ldc 193, 2) := dk_18 193 (dk_at dksX1_drop_0 1 rfl rfl)
theorem dX1_drop_3 : decode cX1_drop 3 = .ok (.iload_n 1, 1) := dk_27 (dk_at dksX1_drop_0 3 rfl rfl)
theorem dX1_drop_4 : decode cX1_drop 4 = .ok (.iconst 0, 1) := dk_3 (dk_at dksX1_drop_0 4 rfl rfl)
theorem dX1_drop_5 : decode cX1_drop 5 = .ok (.invokevirtual 117, 3) := dk_182 0 117 (dk_at dksX1_drop_0 5 rfl rfl)
theorem dX1_drop_8 : decode cX1_drop 8 = .ok (.ireturn, 1) := dk_172 (dk_at dksX1_drop_0 8 rfl rfl)
abbrev cX1_weights : ByteArray := prog_1_method_23_code
def yX1_weights : MethodName := ⟨RX1, "weights", "(II)I"⟩
def dkwX1_weights_0 : List UInt8 := [42, 18, 195, 27, 28, 182, 0, 117, 172]
abbrev dktX1_weights_0 : List UInt8 := dkwX1_weights_0 ++ []
theorem dksX1_weights_0 : cX1_weights.data.toList.drop 0 = dktX1_weights_0 := by decide +kernel
theorem dX1_weights_0 : decode cX1_weights 0 = .ok (.aload_n 0, 1) := dk_42 (dk_at dksX1_weights_0 0 rfl rfl)
theorem dX1_weights_1 : decode cX1_weights 1 = .ok (.ldc 195, 2) := dk_18 195 (dk_at dksX1_weights_0 1 rfl rfl)
theorem dX1_weights_3 : decode cX1_weights 3 = .ok (.iload_n 1, 1) := dk_27 (dk_at dksX1_weights_0 3 rfl rfl)
theorem dX1_weights_4 : decode cX1_weights 4 = .ok (.iload_n 2, 1) := dk_28 (dk_at dksX1_weights_0 4 rfl rfl)
theorem dX1_weights_5 : decode cX1_weights 5 = .ok (.invokevirtual 117, 3) := dk_182 0 117 (dk_at dksX1_weights_0 5 rfl rfl)
theorem dX1_weights_8 : decode cX1_weights 8 = .ok (.ireturn, 1) := dk_172 (dk_at dksX1_weights_0 8 rfl rfl)
abbrev cX1_bestWeights : ByteArray := prog_1_method_24_code
def yX1_bestWeights : MethodName := ⟨RX1, "bestWeights", "(I)I"⟩
def dkwX1_bestWeights_0 : List UInt8 := [42, 180, 0, 39, 27, 182, 0, 123, 182, 0, 197, 172]
abbrev dktX1_bestWeights_0 : List UInt8 := dkwX1_bestWeights_0 ++ []
theorem dksX1_bestWeights_0 : cX1_bestWeights.data.toList.drop 0 = dktX1_bestWeights_0 := by decide +kernel
theorem dX1_bestWeights_0 : decode cX1_bestWeights 0 = .ok (.aload_n 0, 1) := dk_42 (dk_at dksX1_bestWeights_0 0 rfl rfl)
theorem dX1_bestWeights_1 : decode cX1_bestWeights 1 = .ok (.getfield 39, 3) := dk_180 0 39 (dk_at dksX1_bestWeights_0 1 rfl rfl)
theorem dX1_bestWeights_4 : decode cX1_bestWeights 4 = .ok (.iload_n 1, 1) := dk_27 (dk_at dksX1_bestWeights_0 4 rfl rfl)
theorem dX1_bestWeights_5 : decode cX1_bestWeights 5 = .ok (.invokevirtual 123, 3) := dk_182 0 123 (dk_at dksX1_bestWeights_0 5 rfl rfl)
theorem dX1_bestWeights_8 : decode cX1_bestWeights 8 = .ok (.invokevirtual 197, 3) := dk_182 0 197 (dk_at dksX1_bestWeights_0 8 rfl rfl)
theorem dX1_bestWeights_11 : decode cX1_bestWeights 11 = .ok (.ireturn, 1) := dk_172 (dk_at dksX1_bestWeights_0 11 rfl rfl)
abbrev cX1_bestBar : ByteArray := prog_1_method_26_code
def yX1_bestBar : MethodName := ⟨RX1, "bestBar", "(I)I"⟩
def dkwX1_bestBar_0 : List UInt8 := [42, 180, 0, 39, 42, 180, 0, 39, 27, 182, 0, 161, 182, 0, 209, 184, 0, 213, 172]
abbrev dktX1_bestBar_0 : List UInt8 := dkwX1_bestBar_0 ++ []
theorem dksX1_bestBar_0 : cX1_bestBar.data.toList.drop 0 = dktX1_bestBar_0 := by decide +kernel
theorem dX1_bestBar_0 : decode cX1_bestBar 0 = .ok (.aload_n 0, 1) := dk_42 (dk_at dksX1_bestBar_0 0 rfl rfl)
theorem dX1_bestBar_1 : decode cX1_bestBar 1 = .ok (.getfield 39, 3) := dk_180 0 39 (dk_at dksX1_bestBar_0 1 rfl rfl)
theorem dX1_bestBar_4 : decode cX1_bestBar 4 = .ok (.aload_n 0, 1) := dk_42 (dk_at dksX1_bestBar_0 4 rfl rfl)
theorem dX1_bestBar_5 : decode cX1_bestBar 5 = .ok (.getfield 39, 3) := dk_180 0 39 (dk_at dksX1_bestBar_0 5 rfl rfl)
theorem dX1_bestBar_8 : decode cX1_bestBar 8 = .ok (.iload_n 1, 1) := dk_27 (dk_at dksX1_bestBar_0 8 rfl rfl)
theorem dX1_bestBar_9 : decode cX1_bestBar 9 = .ok (.invokevirtual 161, 3) := dk_182 0 161 (dk_at dksX1_bestBar_0 9 rfl rfl)
theorem dX1_bestBar_12 : decode cX1_bestBar 12 = .ok (.invokevirtual 209, 3) := dk_182 0 209 (dk_at dksX1_bestBar_0 12 rfl rfl)
theorem dX1_bestBar_15 : decode cX1_bestBar 15 = .ok (.invokestatic 213, 3) := dk_184 0 213 (dk_at dksX1_bestBar_0 15 rfl rfl)
theorem dX1_bestBar_18 : decode cX1_bestBar 18 = .ok (.ireturn, 1) := dk_172 (dk_at dksX1_bestBar_0 18 rfl rfl)
abbrev cX1_found : ByteArray := prog_1_method_25_code
def yX1_found : MethodName := ⟨RX1, "found", "(LCurtainRiggers$Numbered;)I"⟩
def dkwX1_found_0 : List UInt8 := [42, 184, 0, 200, 60, 27, 2, 159, 0, 7, 4, 167, 0, 4, 3, 184, 0, 206, 27, 172]
abbrev dktX1_found_0 : List UInt8 := dkwX1_found_0 ++ []
theorem dksX1_found_0 : cX1_found.data.toList.drop 0 = dktX1_found_0 := by decide +kernel
theorem dX1_found_0 : decode cX1_found 0 = .ok (.aload_n 0, 1) := dk_42 (dk_at dksX1_found_0 0 rfl rfl)
theorem dX1_found_1 : decode cX1_found 1 = .ok (.invokestatic 200, 3) := dk_184 0 200 (dk_at dksX1_found_0 1 rfl rfl)
theorem dX1_found_4 : decode cX1_found 4 = .ok (.istore_n 1, 1) := dk_60 (dk_at dksX1_found_0 4 rfl rfl)
theorem dX1_found_5 : decode cX1_found 5 = .ok (.iload_n 1, 1) := dk_27 (dk_at dksX1_found_0 5 rfl rfl)
theorem dX1_found_6 : decode cX1_found 6 = .ok (.iconst (-1), 1) := dk_2 (dk_at dksX1_found_0 6 rfl rfl)
theorem dX1_found_7 : decode cX1_found 7 = .ok (.if_icmp .eq 7, 3) := dk_159 0 7 (dk_at dksX1_found_0 7 rfl rfl)
theorem dX1_found_10 : decode cX1_found 10 = .ok (.iconst 1, 1) := dk_4 (dk_at dksX1_found_0 10 rfl rfl)
theorem dX1_found_11 : decode cX1_found 11 = .ok (.goto 4, 3) := dk_167 0 4 (dk_at dksX1_found_0 11 rfl rfl)
theorem dX1_found_14 : decode cX1_found 14 = .ok (.iconst 0, 1) := dk_3 (dk_at dksX1_found_0 14 rfl rfl)
theorem dX1_found_15 : decode cX1_found 15 = .ok (.invokestatic 206, 3) := dk_184 0 206 (dk_at dksX1_found_0 15 rfl rfl)
theorem dX1_found_18 : decode cX1_found 18 = .ok (.iload_n 1, 1) := dk_27 (dk_at dksX1_found_0 18 rfl rfl)
theorem dX1_found_19 : decode cX1_found 19 = .ok (.ireturn, 1) := dk_172 (dk_at dksX1_found_0 19 rfl rfl)
abbrev cX1_checkElement : ByteArray := prog_1_method_5_code
def yX1_checkElement : MethodName := ⟨RX1, "checkElement", "(Z)V"⟩
def dkwX1_checkElement_0 : List UInt8 := [26, 154, 0, 11, 187, 0, 13, 89, 183, 0, 15, 191, 177]
abbrev dktX1_checkElement_0 : List UInt8 := dkwX1_checkElement_0 ++ []
theorem dksX1_checkElement_0 : cX1_checkElement.data.toList.drop 0 = dktX1_checkElement_0 := by decide +kernel
theorem dX1_checkElement_0 : decode cX1_checkElement 0 = .ok (.iload_n 0, 1) := dk_26 (dk_at dksX1_checkElement_0 0 rfl rfl)
theorem dX1_checkElement_1 : decode cX1_checkElement 1 = .ok (.ifCond .ne 11, 3) := dk_154 0 11 (dk_at dksX1_checkElement_0 1 rfl rfl)
theorem dX1_checkElement_4 : decode cX1_checkElement 4 = .ok (.new 13, 3) := dk_187 0 13 (dk_at dksX1_checkElement_0 4 rfl rfl)
theorem dX1_checkElement_7 : decode cX1_checkElement 7 = .ok (.dup, 1) := dk_89 (dk_at dksX1_checkElement_0 7 rfl rfl)
theorem dX1_checkElement_8 : decode cX1_checkElement 8 = .ok (.invokespecial 15, 3) := dk_183 0 15 (dk_at dksX1_checkElement_0 8 rfl rfl)
theorem dX1_checkElement_11 : decode cX1_checkElement 11 = .ok (.athrow, 1) := dk_191 (dk_at dksX1_checkElement_0 11 rfl rfl)
theorem dX1_checkElement_12 : decode cX1_checkElement 12 = .ok (.return_, 1) := dk_177 (dk_at dksX1_checkElement_0 12 rfl rfl)
abbrev cX1_bestAgain : ByteArray := prog_1_method_27_code
def yX1_bestAgain : MethodName := ⟨RX1, "bestAgain", "(I)I"⟩
def dkwX1_bestAgain_0 : List UInt8 := [42, 180, 0, 39, 42, 180, 0, 39, 27, 182, 0, 161, 182, 0, 216, 184, 0, 213, 172]
abbrev dktX1_bestAgain_0 : List UInt8 := dkwX1_bestAgain_0 ++ []
theorem dksX1_bestAgain_0 : cX1_bestAgain.data.toList.drop 0 = dktX1_bestAgain_0 := by decide +kernel
theorem dX1_bestAgain_0 : decode cX1_bestAgain 0 = .ok (.aload_n 0, 1) := dk_42 (dk_at dksX1_bestAgain_0 0 rfl rfl)
theorem dX1_bestAgain_1 : decode cX1_bestAgain 1 = .ok (.getfield 39, 3) := dk_180 0 39 (dk_at dksX1_bestAgain_0 1 rfl rfl)
theorem dX1_bestAgain_4 : decode cX1_bestAgain 4 = .ok (.aload_n 0, 1) := dk_42 (dk_at dksX1_bestAgain_0 4 rfl rfl)
theorem dX1_bestAgain_5 : decode cX1_bestAgain 5 = .ok (.getfield 39, 3) := dk_180 0 39 (dk_at dksX1_bestAgain_0 5 rfl rfl)
theorem dX1_bestAgain_8 : decode cX1_bestAgain 8 = .ok (.iload_n 1, 1) := dk_27 (dk_at dksX1_bestAgain_0 8 rfl rfl)
theorem dX1_bestAgain_9 : decode cX1_bestAgain 9 = .ok (.invokevirtual 161, 3) := dk_182 0 161 (dk_at dksX1_bestAgain_0 9 rfl rfl)
theorem dX1_bestAgain_12 : decode cX1_bestAgain 12 = .ok (.invokevirtual 216, 3) := dk_182 0 216 (dk_at dksX1_bestAgain_0 12 rfl rfl)
theorem dX1_bestAgain_15 : decode cX1_bestAgain 15 = .ok (.invokestatic 213, 3) := dk_184 0 213 (dk_at dksX1_bestAgain_0 15 rfl rfl)
theorem dX1_bestAgain_18 : decode cX1_bestAgain 18 = .ok (.ireturn, 1) := dk_172 (dk_at dksX1_bestAgain_0 18 rfl rfl)
abbrev cX1_hand : ByteArray := prog_1_method_28_code
def yX1_hand : MethodName := ⟨RX1, "hand", "(II)I"⟩
def dkwX1_hand_0 : List UInt8 := [42, 18, 219, 27, 28, 182, 0, 117, 172]
abbrev dktX1_hand_0 : List UInt8 := dkwX1_hand_0 ++ []
theorem dksX1_hand_0 : cX1_hand.data.toList.drop 0 = dktX1_hand_0 := by decide +kernel
theorem dX1_hand_0 : decode cX1_hand 0 = .ok (.aload_n 0, 1) := dk_42 (dk_at dksX1_hand_0 0 rfl rfl)
theorem dX1_hand_1 : decode cX1_hand 1 = .ok (.ldc 219, 2) := dk_18 219 (dk_at dksX1_hand_0 1 rfl rfl)
theorem dX1_hand_3 : decode cX1_hand 3 = .ok (.iload_n 1, 1) := dk_27 (dk_at dksX1_hand_0 3 rfl rfl)
theorem dX1_hand_4 : decode cX1_hand 4 = .ok (.iload_n 2, 1) := dk_28 (dk_at dksX1_hand_0 4 rfl rfl)
theorem dX1_hand_5 : decode cX1_hand 5 = .ok (.invokevirtual 117, 3) := dk_182 0 117 (dk_at dksX1_hand_0 5 rfl rfl)
theorem dX1_hand_8 : decode cX1_hand 8 = .ok (.ireturn, 1) := dk_172 (dk_at dksX1_hand_0 8 rfl rfl)
abbrev cX1_move : ByteArray := prog_1_method_29_code
def yX1_move : MethodName := ⟨RX1, "move", "(II)I"⟩
def dkwX1_move_0 : List UInt8 := [42, 18, 221, 27, 28, 182, 0, 117, 172]
abbrev dktX1_move_0 : List UInt8 := dkwX1_move_0 ++ []
theorem dksX1_move_0 : cX1_move.data.toList.drop 0 = dktX1_move_0 := by decide +kernel
theorem dX1_move_0 : decode cX1_move 0 = .ok (.aload_n 0, 1) := dk_42 (dk_at dksX1_move_0 0 rfl rfl)
theorem dX1_move_1 : decode cX1_move 1 = .ok (.ldc 221, 2) := dk_18 221 (dk_at dksX1_move_0 1 rfl rfl)
theorem dX1_move_3 : decode cX1_move 3 = .ok (.iload_n 1, 1) := dk_27 (dk_at dksX1_move_0 3 rfl rfl)
theorem dX1_move_4 : decode cX1_move 4 = .ok (.iload_n 2, 1) := dk_28 (dk_at dksX1_move_0 4 rfl rfl)
theorem dX1_move_5 : decode cX1_move 5 = .ok (.invokevirtual 117, 3) := dk_182 0 117 (dk_at dksX1_move_0 5 rfl rfl)
theorem dX1_move_8 : decode cX1_move 8 = .ok (.ireturn, 1) := dk_172 (dk_at dksX1_move_0 8 rfl rfl)
abbrev cX1_strength : ByteArray := prog_1_method_30_code
def yX1_strength : MethodName := ⟨RX1, "strength", "(I)I"⟩
def dkwX1_strength_0 : List UInt8 := [27, 184, 0, 223, 42, 180, 0, 39, 27, 182, 0, 227, 172]
abbrev dktX1_strength_0 : List UInt8 := dkwX1_strength_0 ++ []
theorem dksX1_strength_0 : cX1_strength.data.toList.drop 0 = dktX1_strength_0 := by decide +kernel
theorem dX1_strength_0 : decode cX1_strength 0 = .ok (.iload_n 1, 1) := dk_27 (dk_at dksX1_strength_0 0 rfl rfl)
theorem dX1_strength_1 : decode cX1_strength 1 = .ok (.invokestatic 223, 3) := dk_184 0 223 (dk_at dksX1_strength_0 1 rfl rfl)
theorem dX1_strength_4 : decode cX1_strength 4 = .ok (.aload_n 0, 1) := dk_42 (dk_at dksX1_strength_0 4 rfl rfl)
theorem dX1_strength_5 : decode cX1_strength 5 = .ok (.getfield 39, 3) := dk_180 0 39 (dk_at dksX1_strength_0 5 rfl rfl)
theorem dX1_strength_8 : decode cX1_strength 8 = .ok (.iload_n 1, 1) := dk_27 (dk_at dksX1_strength_0 8 rfl rfl)
theorem dX1_strength_9 : decode cX1_strength 9 = .ok (.invokevirtual 227, 3) := dk_182 0 227 (dk_at dksX1_strength_0 9 rfl rfl)
theorem dX1_strength_12 : decode cX1_strength 12 = .ok (.ireturn, 1) := dk_172 (dk_at dksX1_strength_0 12 rfl rfl)
abbrev cX1_door : ByteArray := prog_1_method_31_code
def yX1_door : MethodName := ⟨RX1, "door", "(IZ)I"⟩
def dkwX1_door_0 : List UInt8 := [42, 28, 153, 0, 8, 18, 231, 167, 0, 5, 18, 233, 27, 3, 182, 0, 117, 172]
abbrev dktX1_door_0 : List UInt8 := dkwX1_door_0 ++ []
theorem dksX1_door_0 : cX1_door.data.toList.drop 0 = dktX1_door_0 := by decide +kernel
theorem dX1_door_0 : decode cX1_door 0 = .ok (.aload_n 0, 1) := dk_42 (dk_at dksX1_door_0 0 rfl rfl)
theorem dX1_door_1 : decode cX1_door 1 = .ok (.iload_n 2, 1) := dk_28 (dk_at dksX1_door_0 1 rfl rfl)
theorem dX1_door_2 : decode cX1_door 2 = .ok (.ifCond .eq 8, 3) := dk_153 0 8 (dk_at dksX1_door_0 2 rfl rfl)
theorem dX1_door_5 : decode cX1_door 5 = .ok (.ldc 231, 2) := dk_18 231 (dk_at dksX1_door_0 5 rfl rfl)
theorem dX1_door_7 : decode cX1_door 7 = .ok (.goto 5, 3) := dk_167 0 5 (dk_at dksX1_door_0 7 rfl rfl)
theorem dX1_door_10 : decode cX1_door 10 = .ok (.ldc 233, 2) := dk_18 233 (dk_at dksX1_door_0 10 rfl rfl)
theorem dX1_door_12 : decode cX1_door 12 = .ok (.iload_n 1, 1) := dk_27 (dk_at dksX1_door_0 12 rfl rfl)
theorem dX1_door_13 : decode cX1_door 13 = .ok (.iconst 0, 1) := dk_3 (dk_at dksX1_door_0 13 rfl rfl)
theorem dX1_door_14 : decode cX1_door 14 = .ok (.invokevirtual 117, 3) := dk_182 0 117 (dk_at dksX1_door_0 14 rfl rfl)
theorem dX1_door_17 : decode cX1_door 17 = .ok (.ireturn, 1) := dk_172 (dk_at dksX1_door_0 17 rfl rfl)
abbrev cX1_noise : ByteArray := prog_1_method_32_code
def yX1_noise : MethodName := ⟨RX1, "noise", "(IIZ)I"⟩
def dkwX1_noise_1 : List UInt8 := [28, 182, 0, 238, 167, 0, 13, 42, 180, 0, 39, 25, 4, 28, 182, 0, 242, 172]
abbrev dktX1_noise_1 : List UInt8 := dkwX1_noise_1 ++ []
def dkwX1_noise_0 : List UInt8 := [42, 180, 0, 39, 27, 182, 0, 123, 58, 4, 28, 184, 0, 235, 29, 153, 0, 16, 42, 180, 0, 39, 25, 4]
abbrev dktX1_noise_0 : List UInt8 := dkwX1_noise_0 ++ dktX1_noise_1
theorem dksX1_noise_0 : cX1_noise.data.toList.drop 0 = dktX1_noise_0 := by decide +kernel
theorem dksX1_noise_1 : cX1_noise.data.toList.drop 24 = dktX1_noise_1 := dk_seg dksX1_noise_0 24 rfl rfl
theorem dX1_noise_0 : decode cX1_noise 0 = .ok (.aload_n 0, 1) := dk_42 (dk_at dksX1_noise_0 0 rfl rfl)
theorem dX1_noise_1 : decode cX1_noise 1 = .ok (.getfield 39, 3) := dk_180 0 39 (dk_at dksX1_noise_0 1 rfl rfl)
theorem dX1_noise_4 : decode cX1_noise 4 = .ok (.iload_n 1, 1) := dk_27 (dk_at dksX1_noise_0 4 rfl rfl)
theorem dX1_noise_5 : decode cX1_noise 5 = .ok (.invokevirtual 123, 3) := dk_182 0 123 (dk_at dksX1_noise_0 5 rfl rfl)
theorem dX1_noise_8 : decode cX1_noise 8 = .ok (.astore 4, 2) := dk_58 4 (dk_at dksX1_noise_0 8 rfl rfl)
theorem dX1_noise_10 : decode cX1_noise 10 = .ok (.iload_n 2, 1) := dk_28 (dk_at dksX1_noise_0 10 rfl rfl)
theorem dX1_noise_11 : decode cX1_noise 11 = .ok (.invokestatic 235, 3) := dk_184 0 235 (dk_at dksX1_noise_0 11 rfl rfl)
theorem dX1_noise_14 : decode cX1_noise 14 = .ok (.iload_n 3, 1) := dk_29 (dk_at dksX1_noise_0 14 rfl rfl)
theorem dX1_noise_15 : decode cX1_noise 15 = .ok (.ifCond .eq 16, 3) := dk_153 0 16 (dk_at dksX1_noise_0 15 rfl rfl)
theorem dX1_noise_18 : decode cX1_noise 18 = .ok (.aload_n 0, 1) := dk_42 (dk_at dksX1_noise_0 18 rfl rfl)
theorem dX1_noise_19 : decode cX1_noise 19 = .ok (.getfield 39, 3) := dk_180 0 39 (dk_at dksX1_noise_0 19 rfl rfl)
theorem dX1_noise_22 : decode cX1_noise 22 = .ok (.aload 4, 2) := dk_25 4 (dk_at dksX1_noise_0 22 rfl rfl)
theorem dX1_noise_24 : decode cX1_noise 24 = .ok (.iload_n 2, 1) := dk_28 (dk_at dksX1_noise_1 0 rfl rfl)
theorem dX1_noise_25 : decode cX1_noise 25 = .ok (.invokevirtual 238, 3) := dk_182 0 238 (dk_at dksX1_noise_1 1 rfl rfl)
theorem dX1_noise_28 : decode cX1_noise 28 = .ok (.goto 13, 3) := dk_167 0 13 (dk_at dksX1_noise_1 4 rfl rfl)
theorem dX1_noise_31 : decode cX1_noise 31 = .ok (.aload_n 0, 1) := dk_42 (dk_at dksX1_noise_1 7 rfl rfl)
theorem dX1_noise_32 : decode cX1_noise 32 = .ok (.getfield 39, 3) := dk_180 0 39 (dk_at dksX1_noise_1 8 rfl rfl)
theorem dX1_noise_35 : decode cX1_noise 35 = .ok (.aload 4, 2) := dk_25 4 (dk_at dksX1_noise_1 11 rfl rfl)
theorem dX1_noise_37 : decode cX1_noise 37 = .ok (.iload_n 2, 1) := dk_28 (dk_at dksX1_noise_1 13 rfl rfl)
theorem dX1_noise_38 : decode cX1_noise 38 = .ok (.invokevirtual 242, 3) := dk_182 0 242 (dk_at dksX1_noise_1 14 rfl rfl)
theorem dX1_noise_41 : decode cX1_noise 41 = .ok (.ireturn, 1) := dk_172 (dk_at dksX1_noise_1 17 rfl rfl)
abbrev cX1_fly : ByteArray := prog_1_method_33_code
def yX1_fly : MethodName := ⟨RX1, "fly", "(II)I"⟩
def dkwX1_fly_0 : List UInt8 := [42, 18, 245, 27, 28, 182, 0, 117, 172]
abbrev dktX1_fly_0 : List UInt8 := dkwX1_fly_0 ++ []
theorem dksX1_fly_0 : cX1_fly.data.toList.drop 0 = dktX1_fly_0 := by decide +kernel
theorem dX1_fly_0 : decode cX1_fly 0 = .ok (.aload_n 0, 1) := dk_42 (dk_at dksX1_fly_0 0 rfl rfl)
theorem dX1_fly_1 : decode cX1_fly 1 = .ok (.ldc 245, 2) := dk_18 245 (dk_at dksX1_fly_0 1 rfl rfl)
theorem dX1_fly_3 : decode cX1_fly 3 = .ok (.iload_n 1, 1) := dk_27 (dk_at dksX1_fly_0 3 rfl rfl)
theorem dX1_fly_4 : decode cX1_fly 4 = .ok (.iload_n 2, 1) := dk_28 (dk_at dksX1_fly_0 4 rfl rfl)
theorem dX1_fly_5 : decode cX1_fly 5 = .ok (.invokevirtual 117, 3) := dk_182 0 117 (dk_at dksX1_fly_0 5 rfl rfl)
theorem dX1_fly_8 : decode cX1_fly 8 = .ok (.ireturn, 1) := dk_172 (dk_at dksX1_fly_0 8 rfl rfl)
abbrev cX1_wouldRefuse : ByteArray := prog_1_method_34_code
def yX1_wouldRefuse : MethodName := ⟨RX1, "wouldRefuse", "(I)I"⟩
def dkwX1_wouldRefuse_0 : List UInt8 := [42, 180, 0, 39, 42, 180, 0, 39, 27, 182, 0, 123, 182, 0, 247, 172]
abbrev dktX1_wouldRefuse_0 : List UInt8 := dkwX1_wouldRefuse_0 ++ []
theorem dksX1_wouldRefuse_0 : cX1_wouldRefuse.data.toList.drop 0 = dktX1_wouldRefuse_0 := by decide +kernel
theorem dX1_wouldRefuse_0 : decode cX1_wouldRefuse 0 = .ok (.aload_n 0, 1) := dk_42 (dk_at dksX1_wouldRefuse_0 0 rfl rfl)
theorem dX1_wouldRefuse_1 : decode cX1_wouldRefuse 1 = .ok (.getfield 39, 3) := dk_180 0 39 (dk_at dksX1_wouldRefuse_0 1 rfl rfl)
theorem dX1_wouldRefuse_4 : decode cX1_wouldRefuse 4 = .ok (.aload_n 0, 1) := dk_42 (dk_at dksX1_wouldRefuse_0 4 rfl rfl)
theorem dX1_wouldRefuse_5 : decode cX1_wouldRefuse 5 = .ok (.getfield 39, 3) := dk_180 0 39 (dk_at dksX1_wouldRefuse_0 5 rfl rfl)
theorem dX1_wouldRefuse_8 : decode cX1_wouldRefuse 8 = .ok (.iload_n 1, 1) := dk_27 (dk_at dksX1_wouldRefuse_0 8 rfl rfl)
theorem dX1_wouldRefuse_9 : decode cX1_wouldRefuse 9 = .ok (.invokevirtual 123, 3) := dk_182 0 123 (dk_at dksX1_wouldRefuse_0 9 rfl rfl)
theorem dX1_wouldRefuse_12 : decode cX1_wouldRefuse 12 = .ok (.invokevirtual 247, 3) := dk_182 0 247 (dk_at dksX1_wouldRefuse_0 12 rfl rfl)
theorem dX1_wouldRefuse_15 : decode cX1_wouldRefuse 15 = .ok (.ireturn, 1) := dk_172 (dk_at dksX1_wouldRefuse_0 15 rfl rfl)
abbrev cX1_cue : ByteArray := prog_1_method_35_code
def yX1_cue : MethodName := ⟨RX1, "cue", "(IIII)I"⟩
def dkwX1_cue_1 : List UInt8 := [182, 1, 0, 54, 6, 42, 25, 5, 182, 0, 101, 21, 6, 172]
abbrev dktX1_cue_1 : List UInt8 := dkwX1_cue_1 ++ []
def dkwX1_cue_0 : List UInt8 := [42, 180, 0, 39, 182, 0, 79, 58, 5, 25, 5, 187, 0, 251, 89, 27, 28, 29, 21, 4, 183, 0, 253]
abbrev dktX1_cue_0 : List UInt8 := dkwX1_cue_0 ++ dktX1_cue_1
theorem dksX1_cue_0 : cX1_cue.data.toList.drop 0 = dktX1_cue_0 := by decide +kernel
theorem dksX1_cue_1 : cX1_cue.data.toList.drop 23 = dktX1_cue_1 := dk_seg dksX1_cue_0 23 rfl rfl
theorem dX1_cue_0 : decode cX1_cue 0 = .ok (.aload_n 0, 1) := dk_42 (dk_at dksX1_cue_0 0 rfl rfl)
theorem dX1_cue_1 : decode cX1_cue 1 = .ok (.getfield 39, 3) := dk_180 0 39 (dk_at dksX1_cue_0 1 rfl rfl)
theorem dX1_cue_4 : decode cX1_cue 4 = .ok (.invokevirtual 79, 3) := dk_182 0 79 (dk_at dksX1_cue_0 4 rfl rfl)
theorem dX1_cue_7 : decode cX1_cue 7 = .ok (.astore 5, 2) := dk_58 5 (dk_at dksX1_cue_0 7 rfl rfl)
theorem dX1_cue_9 : decode cX1_cue 9 = .ok (.aload 5, 2) := dk_25 5 (dk_at dksX1_cue_0 9 rfl rfl)
theorem dX1_cue_11 : decode cX1_cue 11 = .ok (.new 251, 3) := dk_187 0 251 (dk_at dksX1_cue_0 11 rfl rfl)
theorem dX1_cue_14 : decode cX1_cue 14 = .ok (.dup, 1) := dk_89 (dk_at dksX1_cue_0 14 rfl rfl)
theorem dX1_cue_15 : decode cX1_cue 15 = .ok (.iload_n 1, 1) := dk_27 (dk_at dksX1_cue_0 15 rfl rfl)
theorem dX1_cue_16 : decode cX1_cue 16 = .ok (.iload_n 2, 1) := dk_28 (dk_at dksX1_cue_0 16 rfl rfl)
theorem dX1_cue_17 : decode cX1_cue 17 = .ok (.iload_n 3, 1) := dk_29 (dk_at dksX1_cue_0 17 rfl rfl)
theorem dX1_cue_18 : decode cX1_cue 18 = .ok (.iload 4, 2) := dk_21 4 (dk_at dksX1_cue_0 18 rfl rfl)
theorem dX1_cue_20 : decode cX1_cue 20 = .ok (.invokespecial 253, 3) := dk_183 0 253 (dk_at dksX1_cue_0 20 rfl rfl)
theorem dX1_cue_23 : decode cX1_cue 23 = .ok (.invokevirtual 256, 3) := dk_182 1 0 (dk_at dksX1_cue_1 0 rfl rfl)
theorem dX1_cue_26 : decode cX1_cue 26 = .ok (.istore 6, 2) := dk_54 6 (dk_at dksX1_cue_1 3 rfl rfl)
theorem dX1_cue_28 : decode cX1_cue 28 = .ok (.aload_n 0, 1) := dk_42 (dk_at dksX1_cue_1 5 rfl rfl)
theorem dX1_cue_29 : decode cX1_cue 29 = .ok (.aload 5, 2) := dk_25 5 (dk_at dksX1_cue_1 6 rfl rfl)
theorem dX1_cue_31 : decode cX1_cue 31 = .ok (.invokevirtual 101, 3) := dk_182 0 101 (dk_at dksX1_cue_1 8 rfl rfl)
theorem dX1_cue_34 : decode cX1_cue 34 = .ok (.iload 6, 2) := dk_21 6 (dk_at dksX1_cue_1 11 rfl rfl)
theorem dX1_cue_36 : decode cX1_cue 36 = .ok (.ireturn, 1) := dk_172 (dk_at dksX1_cue_1 13 rfl rfl)
abbrev cX1_cueOf : ByteArray := prog_1_method_36_code
def yX1_cueOf : MethodName := ⟨RX1, "cueOf", "(II)I"⟩
def dkwX1_cueOf_4 : List UInt8 := [183, 0, 3, 191]
abbrev dktX1_cueOf_4 : List UInt8 := dkwX1_cueOf_4 ++ []
def dkwX1_cueOf_3 : List UInt8 := [45, 180, 1, 14, 172, 45, 180, 1, 17, 172, 45, 180, 1, 18, 172, 45, 180, 1, 19, 172, 187, 0, 1, 89]
abbrev dktX1_cueOf_3 : List UInt8 := dkwX1_cueOf_3 ++ dktX1_cueOf_4
def dkwX1_cueOf_2 : List UInt8 := [170, 0, 0, 0, 49, 0, 0, 0, 0, 0, 0, 0, 3, 0, 0, 0, 29, 0, 0, 0, 34, 0, 0, 0, 39, 0, 0, 0, 44]
abbrev dktX1_cueOf_2 : List UInt8 := dkwX1_cueOf_2 ++ dktX1_cueOf_3
def dkwX1_cueOf_1 : List UInt8 := [180, 0, 39, 2, 182, 1, 4, 27, 182, 1, 8, 192, 0, 251, 78, 28]
abbrev dktX1_cueOf_1 : List UInt8 := dkwX1_cueOf_1 ++ dktX1_cueOf_2
def dkwX1_cueOf_0 : List UInt8 := [27, 133, 9, 42, 180, 0, 39, 180, 0, 105, 182, 0, 109, 4, 100, 133, 184, 0, 23, 184, 0, 206, 42]
abbrev dktX1_cueOf_0 : List UInt8 := dkwX1_cueOf_0 ++ dktX1_cueOf_1
theorem dksX1_cueOf_0 : cX1_cueOf.data.toList.drop 0 = dktX1_cueOf_0 := by decide +kernel
theorem dksX1_cueOf_1 : cX1_cueOf.data.toList.drop 23 = dktX1_cueOf_1 := dk_seg dksX1_cueOf_0 23 rfl rfl
theorem dksX1_cueOf_2 : cX1_cueOf.data.toList.drop 39 = dktX1_cueOf_2 := dk_seg dksX1_cueOf_1 16 rfl rfl
theorem dksX1_cueOf_3 : cX1_cueOf.data.toList.drop 68 = dktX1_cueOf_3 := dk_seg dksX1_cueOf_2 29 rfl rfl
theorem dksX1_cueOf_4 : cX1_cueOf.data.toList.drop 92 = dktX1_cueOf_4 := dk_seg dksX1_cueOf_3 24 rfl rfl
theorem dX1_cueOf_0 : decode cX1_cueOf 0 = .ok (.iload_n 1, 1) := dk_27 (dk_at dksX1_cueOf_0 0 rfl rfl)
theorem dX1_cueOf_1 : decode cX1_cueOf 1 = .ok (.i2l, 1) := dk_133 (dk_at dksX1_cueOf_0 1 rfl rfl)
theorem dX1_cueOf_2 : decode cX1_cueOf 2 = .ok (.lconst 0, 1) := dk_9 (dk_at dksX1_cueOf_0 2 rfl rfl)
theorem dX1_cueOf_3 : decode cX1_cueOf 3 = .ok (.aload_n 0, 1) := dk_42 (dk_at dksX1_cueOf_0 3 rfl rfl)
theorem dX1_cueOf_4 : decode cX1_cueOf 4 = .ok (.getfield 39, 3) := dk_180 0 39 (dk_at dksX1_cueOf_0 4 rfl rfl)
theorem dX1_cueOf_7 : decode cX1_cueOf 7 = .ok (.getfield 105, 3) := dk_180 0 105 (dk_at dksX1_cueOf_0 7 rfl rfl)
theorem dX1_cueOf_10 : decode cX1_cueOf 10 = .ok (.invokevirtual 109, 3) := dk_182 0 109 (dk_at dksX1_cueOf_0 10 rfl rfl)
theorem dX1_cueOf_13 : decode cX1_cueOf 13 = .ok (.iconst 1, 1) := dk_4 (dk_at dksX1_cueOf_0 13 rfl rfl)
theorem dX1_cueOf_14 : decode cX1_cueOf 14 = .ok (.isub, 1) := dk_100 (dk_at dksX1_cueOf_0 14 rfl rfl)
theorem dX1_cueOf_15 : decode cX1_cueOf 15 = .ok (.i2l, 1) := dk_133 (dk_at dksX1_cueOf_0 15 rfl rfl)
theorem dX1_cueOf_16 : decode cX1_cueOf 16 = .ok (.invokestatic 23, 3) := dk_184 0 23 (dk_at dksX1_cueOf_0 16 rfl rfl)
theorem dX1_cueOf_19 : decode cX1_cueOf 19 = .ok (.invokestatic 206, 3) := dk_184 0 206 (dk_at dksX1_cueOf_0 19 rfl rfl)
theorem dX1_cueOf_22 : decode cX1_cueOf 22 = .ok (.aload_n 0, 1) := dk_42 (dk_at dksX1_cueOf_0 22 rfl rfl)
theorem dX1_cueOf_23 : decode cX1_cueOf 23 = .ok (.getfield 39, 3) := dk_180 0 39 (dk_at dksX1_cueOf_1 0 rfl rfl)
theorem dX1_cueOf_26 : decode cX1_cueOf 26 = .ok (.iconst (-1), 1) := dk_2 (dk_at dksX1_cueOf_1 3 rfl rfl)
theorem dX1_cueOf_27 : decode cX1_cueOf 27 = .ok (.invokevirtual 260, 3) := dk_182 1 4 (dk_at dksX1_cueOf_1 4 rfl rfl)
theorem dX1_cueOf_30 : decode cX1_cueOf 30 = .ok (.iload_n 1, 1) := dk_27 (dk_at dksX1_cueOf_1 7 rfl rfl)
theorem dX1_cueOf_31 : decode cX1_cueOf 31 = .ok (.invokevirtual 264, 3) := dk_182 1 8 (dk_at dksX1_cueOf_1 8 rfl rfl)
theorem dX1_cueOf_34 : decode cX1_cueOf 34 = .ok (.checkcast 251, 3) := dk_192 0 251 (dk_at dksX1_cueOf_1 11 rfl rfl)
theorem dX1_cueOf_37 : decode cX1_cueOf 37 = .ok (.astore_n 3, 1) := dk_78 (dk_at dksX1_cueOf_1 14 rfl rfl)
theorem dX1_cueOf_38 : decode cX1_cueOf 38 = .ok (.iload_n 2, 1) := dk_28 (dk_at dksX1_cueOf_1 15 rfl rfl)
theorem dX1_cueOf_39 : decode cX1_cueOf 39 = .ok (.tableswitch 49 0 3 #[29, 34, 39, 44], 29) := by decide +kernel
theorem dX1_cueOf_68 : decode cX1_cueOf 68 = .ok (.aload_n 3, 1) := dk_45 (dk_at dksX1_cueOf_3 0 rfl rfl)
theorem dX1_cueOf_69 : decode cX1_cueOf 69 = .ok (.getfield 270, 3) := dk_180 1 14 (dk_at dksX1_cueOf_3 1 rfl rfl)
theorem dX1_cueOf_72 : decode cX1_cueOf 72 = .ok (.ireturn, 1) := dk_172 (dk_at dksX1_cueOf_3 4 rfl rfl)
theorem dX1_cueOf_73 : decode cX1_cueOf 73 = .ok (.aload_n 3, 1) := dk_45 (dk_at dksX1_cueOf_3 5 rfl rfl)
theorem dX1_cueOf_74 : decode cX1_cueOf 74 = .ok (.getfield 273, 3) := dk_180 1 17 (dk_at dksX1_cueOf_3 6 rfl rfl)
theorem dX1_cueOf_77 : decode cX1_cueOf 77 = .ok (.ireturn, 1) := dk_172 (dk_at dksX1_cueOf_3 9 rfl rfl)
theorem dX1_cueOf_78 : decode cX1_cueOf 78 = .ok (.aload_n 3, 1) := dk_45 (dk_at dksX1_cueOf_3 10 rfl rfl)
theorem dX1_cueOf_79 : decode cX1_cueOf 79 = .ok (.getfield 274, 3) := dk_180 1 18 (dk_at dksX1_cueOf_3 11 rfl rfl)
theorem dX1_cueOf_82 : decode cX1_cueOf 82 = .ok (.ireturn, 1) := dk_172 (dk_at dksX1_cueOf_3 14 rfl rfl)
theorem dX1_cueOf_83 : decode cX1_cueOf 83 = .ok (.aload_n 3, 1) := dk_45 (dk_at dksX1_cueOf_3 15 rfl rfl)
theorem dX1_cueOf_84 : decode cX1_cueOf 84 = .ok (.getfield 275, 3) := dk_180 1 19 (dk_at dksX1_cueOf_3 16 rfl rfl)
theorem dX1_cueOf_87 : decode cX1_cueOf 87 = .ok (.ireturn, 1) := dk_172 (dk_at dksX1_cueOf_3 19 rfl rfl)
theorem dX1_cueOf_88 : decode cX1_cueOf 88 = .ok (.new 1, 3) := dk_187 0 1 (dk_at dksX1_cueOf_3 20 rfl rfl)
theorem dX1_cueOf_91 : decode cX1_cueOf 91 = .ok (.dup, 1) := dk_89 (dk_at dksX1_cueOf_3 23 rfl rfl)
theorem dX1_cueOf_92 : decode cX1_cueOf 92 = .ok (.invokespecial 3, 3) := dk_183 0 3 (dk_at dksX1_cueOf_4 0 rfl rfl)
theorem dX1_cueOf_95 : decode cX1_cueOf 95 = .ok (.athrow, 1) := dk_191 (dk_at dksX1_cueOf_4 3 rfl rfl)
abbrev cX1_nextLight : ByteArray := prog_1_method_37_code
def yX1_nextLight : MethodName := ⟨RX1, "nextLight", "()I"⟩
def dkwX1_nextLight_0 : List UInt8 := [42, 180, 0, 39, 182, 1, 22, 184, 0, 213, 172]
abbrev dktX1_nextLight_0 : List UInt8 := dkwX1_nextLight_0 ++ []
theorem dksX1_nextLight_0 : cX1_nextLight.data.toList.drop 0 = dktX1_nextLight_0 := by decide +kernel
theorem dX1_nextLight_0 : decode cX1_nextLight 0 = .ok (.aload_n 0, 1) := dk_42 (dk_at dksX1_nextLight_0 0 rfl rfl)
theorem dX1_nextLight_1 : decode cX1_nextLight 1 = .ok (.getfield 39, 3) := dk_180 0 39 (dk_at dksX1_nextLight_0 1 rfl rfl)
theorem dX1_nextLight_4 : decode cX1_nextLight 4 = .ok (.invokevirtual 278, 3) := dk_182 1 22 (dk_at dksX1_nextLight_0 4 rfl rfl)
theorem dX1_nextLight_7 : decode cX1_nextLight 7 = .ok (.invokestatic 213, 3) := dk_184 0 213 (dk_at dksX1_nextLight_0 7 rfl rfl)
theorem dX1_nextLight_10 : decode cX1_nextLight 10 = .ok (.ireturn, 1) := dk_172 (dk_at dksX1_nextLight_0 10 rfl rfl)
abbrev cX1_go : ByteArray := prog_1_method_38_code
def yX1_go : MethodName := ⟨RX1, "go", "()I"⟩
def dkwX1_go_0 : List UInt8 := [42, 19, 1, 26, 3, 3, 182, 0, 117, 172]
abbrev dktX1_go_0 : List UInt8 := dkwX1_go_0 ++ []
theorem dksX1_go_0 : cX1_go.data.toList.drop 0 = dktX1_go_0 := by decide +kernel
theorem dX1_go_0 : decode cX1_go 0 = .ok (.aload_n 0, 1) := dk_42 (dk_at dksX1_go_0 0 rfl rfl)
theorem dX1_go_1 : decode cX1_go 1 = .ok (.ldc_w 282, 3) := dk_19 1 26 (dk_at dksX1_go_0 1 rfl rfl)
theorem dX1_go_4 : decode cX1_go 4 = .ok (.iconst 0, 1) := dk_3 (dk_at dksX1_go_0 4 rfl rfl)
theorem dX1_go_5 : decode cX1_go 5 = .ok (.iconst 0, 1) := dk_3 (dk_at dksX1_go_0 5 rfl rfl)
theorem dX1_go_6 : decode cX1_go 6 = .ok (.invokevirtual 117, 3) := dk_182 0 117 (dk_at dksX1_go_0 6 rfl rfl)
theorem dX1_go_9 : decode cX1_go 9 = .ok (.ireturn, 1) := dk_172 (dk_at dksX1_go_0 9 rfl rfl)
abbrev cX1_line : ByteArray := prog_1_method_40_code
def yX1_line : MethodName := ⟨RX1, "line", "(I)I"⟩
def dkwX1_line_1 : List UInt8 := [182, 1, 34, 172]
abbrev dktX1_line_1 : List UInt8 := dkwX1_line_1 ++ []
def dkwX1_line_0 : List UInt8 := [42, 42, 180, 0, 39, 42, 180, 0, 39, 27, 182, 0, 123, 182, 1, 31, 181, 0, 59, 42, 180, 0, 59]
abbrev dktX1_line_0 : List UInt8 := dkwX1_line_0 ++ dktX1_line_1
theorem dksX1_line_0 : cX1_line.data.toList.drop 0 = dktX1_line_0 := by decide +kernel
theorem dksX1_line_1 : cX1_line.data.toList.drop 23 = dktX1_line_1 := dk_seg dksX1_line_0 23 rfl rfl
theorem dX1_line_0 : decode cX1_line 0 = .ok (.aload_n 0, 1) := dk_42 (dk_at dksX1_line_0 0 rfl rfl)
theorem dX1_line_1 : decode cX1_line 1 = .ok (.aload_n 0, 1) := dk_42 (dk_at dksX1_line_0 1 rfl rfl)
theorem dX1_line_2 : decode cX1_line 2 = .ok (.getfield 39, 3) := dk_180 0 39 (dk_at dksX1_line_0 2 rfl rfl)
theorem dX1_line_5 : decode cX1_line 5 = .ok (.aload_n 0, 1) := dk_42 (dk_at dksX1_line_0 5 rfl rfl)
theorem dX1_line_6 : decode cX1_line 6 = .ok (.getfield 39, 3) := dk_180 0 39 (dk_at dksX1_line_0 6 rfl rfl)
theorem dX1_line_9 : decode cX1_line 9 = .ok (.iload_n 1, 1) := dk_27 (dk_at dksX1_line_0 9 rfl rfl)
theorem dX1_line_10 : decode cX1_line 10 = .ok (.invokevirtual 123, 3) := dk_182 0 123 (dk_at dksX1_line_0 10 rfl rfl)
theorem dX1_line_13 : decode cX1_line 13 = .ok (.invokevirtual 287, 3) := dk_182 1 31 (dk_at dksX1_line_0 13 rfl rfl)
theorem dX1_line_16 : decode cX1_line 16 = .ok (.putfield 59, 3) := dk_181 0 59 (dk_at dksX1_line_0 16 rfl rfl)
theorem dX1_line_19 : decode cX1_line 19 = .ok (.aload_n 0, 1) := dk_42 (dk_at dksX1_line_0 19 rfl rfl)
theorem dX1_line_20 : decode cX1_line 20 = .ok (.getfield 59, 3) := dk_180 0 59 (dk_at dksX1_line_0 20 rfl rfl)
theorem dX1_line_23 : decode cX1_line 23 = .ok (.invokevirtual 290, 3) := dk_182 1 34 (dk_at dksX1_line_1 0 rfl rfl)
theorem dX1_line_26 : decode cX1_line 26 = .ok (.ireturn, 1) := dk_172 (dk_at dksX1_line_1 3 rfl rfl)
abbrev cX1_character : ByteArray := prog_1_method_42_code
def yX1_character : MethodName := ⟨RX1, "character", "(I)C"⟩
def dkwX1_character_1 : List UInt8 := [182, 1, 46, 172]
abbrev dktX1_character_1 : List UInt8 := dkwX1_character_1 ++ []
def dkwX1_character_0 : List UInt8 := [27, 133, 9, 42, 180, 0, 59, 182, 1, 34, 4, 100, 133, 184, 0, 23, 184, 1, 43, 42, 180, 0, 59, 27]
abbrev dktX1_character_0 : List UInt8 := dkwX1_character_0 ++ dktX1_character_1
theorem dksX1_character_0 : cX1_character.data.toList.drop 0 = dktX1_character_0 := by decide +kernel
theorem dksX1_character_1 : cX1_character.data.toList.drop 24 = dktX1_character_1 := dk_seg dksX1_character_0 24 rfl rfl
theorem dX1_character_0 : decode cX1_character 0 = .ok (.iload_n 1, 1) := dk_27 (dk_at dksX1_character_0 0 rfl rfl)
theorem dX1_character_1 : decode cX1_character 1 = .ok (.i2l, 1) := dk_133 (dk_at dksX1_character_0 1 rfl rfl)
theorem dX1_character_2 : decode cX1_character 2 = .ok (.lconst 0, 1) := dk_9 (dk_at dksX1_character_0 2 rfl rfl)
theorem dX1_character_3 : decode cX1_character 3 = .ok (.aload_n 0, 1) := dk_42 (dk_at dksX1_character_0 3 rfl rfl)
theorem dX1_character_4 : decode cX1_character 4 = .ok (.getfield 59, 3) := dk_180 0 59 (dk_at dksX1_character_0 4 rfl rfl)
theorem dX1_character_7 : decode cX1_character 7 = .ok (.invokevirtual 290, 3) := dk_182 1 34 (dk_at dksX1_character_0 7 rfl rfl)
theorem dX1_character_10 : decode cX1_character 10 = .ok (.iconst 1, 1) := dk_4 (dk_at dksX1_character_0 10 rfl rfl)
theorem dX1_character_11 : decode cX1_character 11 = .ok (.isub, 1) := dk_100 (dk_at dksX1_character_0 11 rfl rfl)
theorem dX1_character_12 : decode cX1_character 12 = .ok (.i2l, 1) := dk_133 (dk_at dksX1_character_0 12 rfl rfl)
theorem dX1_character_13 : decode cX1_character 13 = .ok (.invokestatic 23, 3) := dk_184 0 23 (dk_at dksX1_character_0 13 rfl rfl)
theorem dX1_character_16 : decode cX1_character 16 = .ok (.invokestatic 299, 3) := dk_184 1 43 (dk_at dksX1_character_0 16 rfl rfl)
theorem dX1_character_19 : decode cX1_character 19 = .ok (.aload_n 0, 1) := dk_42 (dk_at dksX1_character_0 19 rfl rfl)
theorem dX1_character_20 : decode cX1_character 20 = .ok (.getfield 59, 3) := dk_180 0 59 (dk_at dksX1_character_0 20 rfl rfl)
theorem dX1_character_23 : decode cX1_character 23 = .ok (.iload_n 1, 1) := dk_27 (dk_at dksX1_character_0 23 rfl rfl)
theorem dX1_character_24 : decode cX1_character 24 = .ok (.invokevirtual 302, 3) := dk_182 1 46 (dk_at dksX1_character_1 0 rfl rfl)
theorem dX1_character_27 : decode cX1_character 27 = .ok (.ireturn, 1) := dk_172 (dk_at dksX1_character_1 3 rfl rfl)
abbrev cX1_refusal : ByteArray := prog_1_method_43_code
def yX1_refusal : MethodName := ⟨RX1, "refusal", "(Z)I"⟩
def dkwX1_refusal_1 : List UInt8 := [180, 1, 53, 167, 0, 10, 42, 180, 0, 94, 180, 1, 56, 172]
abbrev dktX1_refusal_1 : List UInt8 := dkwX1_refusal_1 ++ []
def dkwX1_refusal_0 : List UInt8 := [42, 180, 0, 94, 198, 0, 7, 4, 167, 0, 4, 3, 184, 1, 50, 27, 153, 0, 13, 42, 180, 0, 94]
abbrev dktX1_refusal_0 : List UInt8 := dkwX1_refusal_0 ++ dktX1_refusal_1
theorem dksX1_refusal_0 : cX1_refusal.data.toList.drop 0 = dktX1_refusal_0 := by decide +kernel
theorem dksX1_refusal_1 : cX1_refusal.data.toList.drop 23 = dktX1_refusal_1 := dk_seg dksX1_refusal_0 23 rfl rfl
theorem dX1_refusal_0 : decode cX1_refusal 0 = .ok (.aload_n 0, 1) := dk_42 (dk_at dksX1_refusal_0 0 rfl rfl)
theorem dX1_refusal_1 : decode cX1_refusal 1 = .ok (.getfield 94, 3) := dk_180 0 94 (dk_at dksX1_refusal_0 1 rfl rfl)
theorem dX1_refusal_4 : decode cX1_refusal 4 = .ok (.ifnull 7, 3) := dk_198 0 7 (dk_at dksX1_refusal_0 4 rfl rfl)
theorem dX1_refusal_7 : decode cX1_refusal 7 = .ok (.iconst 1, 1) := dk_4 (dk_at dksX1_refusal_0 7 rfl rfl)
theorem dX1_refusal_8 : decode cX1_refusal 8 = .ok (.goto 4, 3) := dk_167 0 4 (dk_at dksX1_refusal_0 8 rfl rfl)
theorem dX1_refusal_11 : decode cX1_refusal 11 = .ok (.iconst 0, 1) := dk_3 (dk_at dksX1_refusal_0 11 rfl rfl)
theorem dX1_refusal_12 : decode cX1_refusal 12 = .ok (.invokestatic 306, 3) := dk_184 1 50 (dk_at dksX1_refusal_0 12 rfl rfl)
theorem dX1_refusal_15 : decode cX1_refusal 15 = .ok (.iload_n 1, 1) := dk_27 (dk_at dksX1_refusal_0 15 rfl rfl)
theorem dX1_refusal_16 : decode cX1_refusal 16 = .ok (.ifCond .eq 13, 3) := dk_153 0 13 (dk_at dksX1_refusal_0 16 rfl rfl)
theorem dX1_refusal_19 : decode cX1_refusal 19 = .ok (.aload_n 0, 1) := dk_42 (dk_at dksX1_refusal_0 19 rfl rfl)
theorem dX1_refusal_20 : decode cX1_refusal 20 = .ok (.getfield 94, 3) := dk_180 0 94 (dk_at dksX1_refusal_0 20 rfl rfl)
theorem dX1_refusal_23 : decode cX1_refusal 23 = .ok (.getfield 309, 3) := dk_180 1 53 (dk_at dksX1_refusal_1 0 rfl rfl)
theorem dX1_refusal_26 : decode cX1_refusal 26 = .ok (.goto 10, 3) := dk_167 0 10 (dk_at dksX1_refusal_1 3 rfl rfl)
theorem dX1_refusal_29 : decode cX1_refusal 29 = .ok (.aload_n 0, 1) := dk_42 (dk_at dksX1_refusal_1 6 rfl rfl)
theorem dX1_refusal_30 : decode cX1_refusal 30 = .ok (.getfield 94, 3) := dk_180 0 94 (dk_at dksX1_refusal_1 7 rfl rfl)
theorem dX1_refusal_33 : decode cX1_refusal 33 = .ok (.getfield 312, 3) := dk_180 1 56 (dk_at dksX1_refusal_1 10 rfl rfl)
theorem dX1_refusal_36 : decode cX1_refusal 36 = .ok (.ireturn, 1) := dk_172 (dk_at dksX1_refusal_1 13 rfl rfl)
abbrev cX1_account : ByteArray := prog_1_method_44_code
def yX1_account : MethodName := ⟨RX1, "account", "(I)I"⟩
def dkwX1_account_10 : List UInt8 := [42, 180, 0, 53, 182, 1, 92, 172, 42, 180, 0, 46, 182, 0, 67, 172, 187, 0, 1, 89, 183, 0, 3, 191]
abbrev dktX1_account_10 : List UInt8 := dkwX1_account_10 ++ []
def dkwX1_account_9 : List UInt8 := [42, 180, 0, 39, 180, 1, 84, 172, 42, 180, 0, 39, 182, 1, 87, 172, 42, 180, 0, 39, 180, 1, 90, 172]
abbrev dktX1_account_9 : List UInt8 := dkwX1_account_9 ++ dktX1_account_10
def dkwX1_account_8 : List UInt8 := [180, 0, 39, 180, 1, 78, 172, 42, 180, 0, 39, 6, 182, 1, 66, 172, 42, 180, 0, 39, 180, 1, 81, 172]
abbrev dktX1_account_8 : List UInt8 := dkwX1_account_8 ++ dktX1_account_9
def dkwX1_account_7 : List UInt8 := [182, 0, 109, 172, 42, 180, 0, 39, 182, 1, 75, 172, 42, 180, 0, 39, 180, 0, 105, 182, 0, 109, 172, 42]
abbrev dktX1_account_7 : List UInt8 := dkwX1_account_7 ++ dktX1_account_8
def dkwX1_account_6 : List UInt8 := [180, 1, 69, 172, 16, 60, 42, 180, 0, 39, 180, 1, 69, 100, 172, 42, 180, 0, 39, 180, 1, 72]
abbrev dktX1_account_6 : List UInt8 := dkwX1_account_6 ++ dktX1_account_7
def dkwX1_account_5 : List UInt8 := [180, 0, 149, 96, 61, 167, 255, 228, 28, 172, 42, 180, 0, 39, 4, 182, 1, 66, 172, 42, 180, 0, 39]
abbrev dktX1_account_5 : List UInt8 := dkwX1_account_5 ++ dktX1_account_6
def dkwX1_account_4 : List UInt8 := [185, 0, 181, 1, 0, 153, 0, 25, 45, 185, 0, 187, 1, 0, 192, 0, 127, 58, 4, 28, 25, 4]
abbrev dktX1_account_4 : List UInt8 := dkwX1_account_4 ++ dktX1_account_5
def dkwX1_account_3 : List UInt8 := [180, 1, 63, 182, 0, 109, 172, 3, 61, 42, 180, 0, 39, 180, 1, 60, 182, 1, 65, 78, 45]
abbrev dktX1_account_3 : List UInt8 := dkwX1_account_3 ++ dktX1_account_4
def dkwX1_account_2 : List UInt8 := [42, 180, 0, 39, 180, 1, 59, 172, 42, 180, 0, 39, 180, 1, 60, 182, 0, 109, 172, 42, 180, 0, 39]
abbrev dktX1_account_2 : List UInt8 := dkwX1_account_2 ++ dktX1_account_3
def dkwX1_account_1 : List UInt8 := [170, 0, 0, 0, 0, 1, 30, 0, 0, 0, 0, 0, 0, 0, 17, 0, 0, 0, 87, 0, 0, 0, 95, 0, 0, 0, 106, 0, 0, 0, 117, 0, 0, 0, 163, 0, 0, 0, 172, 0, 0, 0, 180, 0, 0, 0, 191, 0, 0, 0, 202, 0, 0, 0, 210, 0, 0, 0, 221, 0, 0, 0, 229, 0, 0, 0, 238, 0, 0, 0, 246, 0, 0, 0, 254, 0, 0, 1, 6, 0, 0, 1, 14, 0, 0, 1, 22]
abbrev dktX1_account_1 : List UInt8 := dkwX1_account_1 ++ dktX1_account_2
def dkwX1_account_0 : List UInt8 := [27]
abbrev dktX1_account_0 : List UInt8 := dkwX1_account_0 ++ dktX1_account_1
theorem dksX1_account_0 : cX1_account.data.toList.drop 0 = dktX1_account_0 := by decide +kernel
theorem dksX1_account_1 : cX1_account.data.toList.drop 1 = dktX1_account_1 := dk_seg dksX1_account_0 1 rfl rfl
theorem dksX1_account_2 : cX1_account.data.toList.drop 88 = dktX1_account_2 := dk_seg dksX1_account_1 87 rfl rfl
theorem dksX1_account_3 : cX1_account.data.toList.drop 111 = dktX1_account_3 := dk_seg dksX1_account_2 23 rfl rfl
theorem dksX1_account_4 : cX1_account.data.toList.drop 132 = dktX1_account_4 := dk_seg dksX1_account_3 21 rfl rfl
theorem dksX1_account_5 : cX1_account.data.toList.drop 154 = dktX1_account_5 := dk_seg dksX1_account_4 22 rfl rfl
theorem dksX1_account_6 : cX1_account.data.toList.drop 177 = dktX1_account_6 := dk_seg dksX1_account_5 23 rfl rfl
theorem dksX1_account_7 : cX1_account.data.toList.drop 199 = dktX1_account_7 := dk_seg dksX1_account_6 22 rfl rfl
theorem dksX1_account_8 : cX1_account.data.toList.drop 223 = dktX1_account_8 := dk_seg dksX1_account_7 24 rfl rfl
theorem dksX1_account_9 : cX1_account.data.toList.drop 247 = dktX1_account_9 := dk_seg dksX1_account_8 24 rfl rfl
theorem dksX1_account_10 : cX1_account.data.toList.drop 271 = dktX1_account_10 := dk_seg dksX1_account_9 24 rfl rfl
theorem dX1_account_0 : decode cX1_account 0 = .ok (.iload_n 1, 1) := dk_27 (dk_at dksX1_account_0 0 rfl rfl)
theorem dX1_account_1 : decode cX1_account 1 = .ok (.tableswitch 286 0 17 #[87, 95, 106, 117, 163, 172, 180, 191, 202, 210, 221, 229, 238, 246, 254, 262, 270, 278], 87) := by decide +kernel
theorem dX1_account_88 : decode cX1_account 88 = .ok (.aload_n 0, 1) := dk_42 (dk_at dksX1_account_2 0 rfl rfl)
theorem dX1_account_89 : decode cX1_account 89 = .ok (.getfield 39, 3) := dk_180 0 39 (dk_at dksX1_account_2 1 rfl rfl)
theorem dX1_account_92 : decode cX1_account 92 = .ok (.getfield 315, 3) := dk_180 1 59 (dk_at dksX1_account_2 4 rfl rfl)
theorem dX1_account_95 : decode cX1_account 95 = .ok (.ireturn, 1) := dk_172 (dk_at dksX1_account_2 7 rfl rfl)
theorem dX1_account_96 : decode cX1_account 96 = .ok (.aload_n 0, 1) := dk_42 (dk_at dksX1_account_2 8 rfl rfl)
theorem dX1_account_97 : decode cX1_account 97 = .ok (.getfield 39, 3) := dk_180 0 39 (dk_at dksX1_account_2 9 rfl rfl)
theorem dX1_account_100 : decode cX1_account 100 = .ok (.getfield 316, 3) := dk_180 1 60 (dk_at dksX1_account_2 12 rfl rfl)
theorem dX1_account_103 : decode cX1_account 103 = .ok (.invokevirtual 109, 3) := dk_182 0 109 (dk_at dksX1_account_2 15 rfl rfl)
theorem dX1_account_106 : decode cX1_account 106 = .ok (.ireturn, 1) := dk_172 (dk_at dksX1_account_2 18 rfl rfl)
theorem dX1_account_107 : decode cX1_account 107 = .ok (.aload_n 0, 1) := dk_42 (dk_at dksX1_account_2 19 rfl rfl)
theorem dX1_account_108 : decode cX1_account 108 = .ok (.getfield 39, 3) := dk_180 0 39 (dk_at dksX1_account_2 20 rfl rfl)
theorem dX1_account_111 : decode cX1_account 111 = .ok (.getfield 319, 3) := dk_180 1 63 (dk_at dksX1_account_3 0 rfl rfl)
theorem dX1_account_114 : decode cX1_account 114 = .ok (.invokevirtual 109, 3) := dk_182 0 109 (dk_at dksX1_account_3 3 rfl rfl)
theorem dX1_account_117 : decode cX1_account 117 = .ok (.ireturn, 1) := dk_172 (dk_at dksX1_account_3 6 rfl rfl)
theorem dX1_account_118 : decode cX1_account 118 = .ok (.iconst 0, 1) := dk_3 (dk_at dksX1_account_3 7 rfl rfl)
theorem dX1_account_119 : decode cX1_account 119 = .ok (.istore_n 2, 1) := dk_61 (dk_at dksX1_account_3 8 rfl rfl)
theorem dX1_account_120 : decode cX1_account 120 = .ok (.aload_n 0, 1) := dk_42 (dk_at dksX1_account_3 9 rfl rfl)
theorem dX1_account_121 : decode cX1_account 121 = .ok (.getfield 39, 3) := dk_180 0 39 (dk_at dksX1_account_3 10 rfl rfl)
theorem dX1_account_124 : decode cX1_account 124 = .ok (.getfield 316, 3) := dk_180 1 60 (dk_at dksX1_account_3 13 rfl rfl)
theorem dX1_account_127 : decode cX1_account 127 = .ok (.invokevirtual 321, 3) := dk_182 1 65 (dk_at dksX1_account_3 16 rfl rfl)
theorem dX1_account_130 : decode cX1_account 130 = .ok (.astore_n 3, 1) := dk_78 (dk_at dksX1_account_3 19 rfl rfl)
theorem dX1_account_131 : decode cX1_account 131 = .ok (.aload_n 3, 1) := dk_45 (dk_at dksX1_account_3 20 rfl rfl)
theorem dX1_account_132 : decode cX1_account 132 = .ok (.invokeinterface 181 1, 5) := by decide +kernel
theorem dX1_account_137 : decode cX1_account 137 = .ok (.ifCond .eq 25, 3) := dk_153 0 25 (dk_at dksX1_account_4 5 rfl rfl)
theorem dX1_account_140 : decode cX1_account 140 = .ok (.aload_n 3, 1) := dk_45 (dk_at dksX1_account_4 8 rfl rfl)
theorem dX1_account_141 : decode cX1_account 141 = .ok (.invokeinterface 187 1, 5) := by decide +kernel
theorem dX1_account_146 : decode cX1_account 146 = .ok (.checkcast 127, 3) := dk_192 0 127 (dk_at dksX1_account_4 14 rfl rfl)
theorem dX1_account_149 : decode cX1_account 149 = .ok (.astore 4, 2) := dk_58 4 (dk_at dksX1_account_4 17 rfl rfl)
theorem dX1_account_151 : decode cX1_account 151 = .ok (.iload_n 2, 1) := dk_28 (dk_at dksX1_account_4 19 rfl rfl)
theorem dX1_account_152 : decode cX1_account 152 = .ok (.aload 4, 2) := dk_25 4 (dk_at dksX1_account_4 20 rfl rfl)
theorem dX1_account_154 : decode cX1_account 154 = .ok (.getfield 149, 3) := dk_180 0 149 (dk_at dksX1_account_5 0 rfl rfl)
theorem dX1_account_157 : decode cX1_account 157 = .ok (.iadd, 1) := dk_96 (dk_at dksX1_account_5 3 rfl rfl)
theorem dX1_account_158 : decode cX1_account 158 = .ok (.istore_n 2, 1) := dk_61 (dk_at dksX1_account_5 4 rfl rfl)
theorem dX1_account_159 : decode cX1_account 159 = .ok (.goto (-28), 3) := dk_167 255 228 (dk_at dksX1_account_5 5 rfl rfl)
theorem dX1_account_162 : decode cX1_account 162 = .ok (.iload_n 2, 1) := dk_28 (dk_at dksX1_account_5 8 rfl rfl)
theorem dX1_account_163 : decode cX1_account 163 = .ok (.ireturn, 1) := dk_172 (dk_at dksX1_account_5 9 rfl rfl)
theorem dX1_account_164 : decode cX1_account 164 = .ok (.aload_n 0, 1) := dk_42 (dk_at dksX1_account_5 10 rfl rfl)
theorem dX1_account_165 : decode cX1_account 165 = .ok (.getfield 39, 3) := dk_180 0 39 (dk_at dksX1_account_5 11 rfl rfl)
theorem dX1_account_168 : decode cX1_account 168 = .ok (.iconst 1, 1) := dk_4 (dk_at dksX1_account_5 14 rfl rfl)
theorem dX1_account_169 : decode cX1_account 169 = .ok (.invokevirtual 322, 3) := dk_182 1 66 (dk_at dksX1_account_5 15 rfl rfl)
theorem dX1_account_172 : decode cX1_account 172 = .ok (.ireturn, 1) := dk_172 (dk_at dksX1_account_5 18 rfl rfl)
theorem dX1_account_173 : decode cX1_account 173 = .ok (.aload_n 0, 1) := dk_42 (dk_at dksX1_account_5 19 rfl rfl)
theorem dX1_account_174 : decode cX1_account 174 = .ok (.getfield 39, 3) := dk_180 0 39 (dk_at dksX1_account_5 20 rfl rfl)
theorem dX1_account_177 : decode cX1_account 177 = .ok (.getfield 325, 3) := dk_180 1 69 (dk_at dksX1_account_6 0 rfl rfl)
theorem dX1_account_180 : decode cX1_account 180 = .ok (.ireturn, 1) := dk_172 (dk_at dksX1_account_6 3 rfl rfl)
theorem dX1_account_181 : decode cX1_account 181 = .ok (.bipush 60, 2) := dk_16 60 (dk_at dksX1_account_6 4 rfl rfl)
theorem dX1_account_183 : decode cX1_account 183 = .ok (.aload_n 0, 1) := dk_42 (dk_at dksX1_account_6 6 rfl rfl)
theorem dX1_account_184 : decode cX1_account 184 = .ok (.getfield 39, 3) := dk_180 0 39 (dk_at dksX1_account_6 7 rfl rfl)
theorem dX1_account_187 : decode cX1_account 187 = .ok (.getfield 325, 3) := dk_180 1 69 (dk_at dksX1_account_6 10 rfl rfl)
theorem dX1_account_190 : decode cX1_account 190 = .ok (.isub, 1) := dk_100 (dk_at dksX1_account_6 13 rfl rfl)
theorem dX1_account_191 : decode cX1_account 191 = .ok (.ireturn, 1) := dk_172 (dk_at dksX1_account_6 14 rfl rfl)
theorem dX1_account_192 : decode cX1_account 192 = .ok (.aload_n 0, 1) := dk_42 (dk_at dksX1_account_6 15 rfl rfl)
theorem dX1_account_193 : decode cX1_account 193 = .ok (.getfield 39, 3) := dk_180 0 39 (dk_at dksX1_account_6 16 rfl rfl)
theorem dX1_account_196 : decode cX1_account 196 = .ok (.getfield 328, 3) := dk_180 1 72 (dk_at dksX1_account_6 19 rfl rfl)
theorem dX1_account_199 : decode cX1_account 199 = .ok (.invokevirtual 109, 3) := dk_182 0 109 (dk_at dksX1_account_7 0 rfl rfl)
theorem dX1_account_202 : decode cX1_account 202 = .ok (.ireturn, 1) := dk_172 (dk_at dksX1_account_7 3 rfl rfl)
theorem dX1_account_203 : decode cX1_account 203 = .ok (.aload_n 0, 1) := dk_42 (dk_at dksX1_account_7 4 rfl rfl)
theorem dX1_account_204 : decode cX1_account 204 = .ok (.getfield 39, 3) := dk_180 0 39 (dk_at dksX1_account_7 5 rfl rfl)
theorem dX1_account_207 : decode cX1_account 207 = .ok (.invokevirtual 331, 3) := dk_182 1 75 (dk_at dksX1_account_7 8 rfl rfl)
theorem dX1_account_210 : decode cX1_account 210 = .ok (.ireturn, 1) := dk_172 (dk_at dksX1_account_7 11 rfl rfl)
theorem dX1_account_211 : decode cX1_account 211 = .ok (.aload_n 0, 1) := dk_42 (dk_at dksX1_account_7 12 rfl rfl)
theorem dX1_account_212 : decode cX1_account 212 = .ok (.getfield 39, 3) := dk_180 0 39 (dk_at dksX1_account_7 13 rfl rfl)
theorem dX1_account_215 : decode cX1_account 215 = .ok (.getfield 105, 3) := dk_180 0 105 (dk_at dksX1_account_7 16 rfl rfl)
theorem dX1_account_218 : decode cX1_account 218 = .ok (.invokevirtual 109, 3) := dk_182 0 109 (dk_at dksX1_account_7 19 rfl rfl)
theorem dX1_account_221 : decode cX1_account 221 = .ok (.ireturn, 1) := dk_172 (dk_at dksX1_account_7 22 rfl rfl)
theorem dX1_account_222 : decode cX1_account 222 = .ok (.aload_n 0, 1) := dk_42 (dk_at dksX1_account_7 23 rfl rfl)
theorem dX1_account_223 : decode cX1_account 223 = .ok (.getfield 39, 3) := dk_180 0 39 (dk_at dksX1_account_8 0 rfl rfl)
theorem dX1_account_226 : decode cX1_account 226 = .ok (.getfield 334, 3) := dk_180 1 78 (dk_at dksX1_account_8 3 rfl rfl)
theorem dX1_account_229 : decode cX1_account 229 = .ok (.ireturn, 1) := dk_172 (dk_at dksX1_account_8 6 rfl rfl)
theorem dX1_account_230 : decode cX1_account 230 = .ok (.aload_n 0, 1) := dk_42 (dk_at dksX1_account_8 7 rfl rfl)
theorem dX1_account_231 : decode cX1_account 231 = .ok (.getfield 39, 3) := dk_180 0 39 (dk_at dksX1_account_8 8 rfl rfl)
theorem dX1_account_234 : decode cX1_account 234 = .ok (.iconst 3, 1) := dk_6 (dk_at dksX1_account_8 11 rfl rfl)
theorem dX1_account_235 : decode cX1_account 235 = .ok (.invokevirtual 322, 3) := dk_182 1 66 (dk_at dksX1_account_8 12 rfl rfl)
theorem dX1_account_238 : decode cX1_account 238 = .ok (.ireturn, 1) := dk_172 (dk_at dksX1_account_8 15 rfl rfl)
theorem dX1_account_239 : decode cX1_account 239 = .ok (.aload_n 0, 1) := dk_42 (dk_at dksX1_account_8 16 rfl rfl)
theorem dX1_account_240 : decode cX1_account 240 = .ok (.getfield 39, 3) := dk_180 0 39 (dk_at dksX1_account_8 17 rfl rfl)
theorem dX1_account_243 : decode cX1_account 243 = .ok (.getfield 337, 3) := dk_180 1 81 (dk_at dksX1_account_8 20 rfl rfl)
theorem dX1_account_246 : decode cX1_account 246 = .ok (.ireturn, 1) := dk_172 (dk_at dksX1_account_8 23 rfl rfl)
theorem dX1_account_247 : decode cX1_account 247 = .ok (.aload_n 0, 1) := dk_42 (dk_at dksX1_account_9 0 rfl rfl)
theorem dX1_account_248 : decode cX1_account 248 = .ok (.getfield 39, 3) := dk_180 0 39 (dk_at dksX1_account_9 1 rfl rfl)
theorem dX1_account_251 : decode cX1_account 251 = .ok (.getfield 340, 3) := dk_180 1 84 (dk_at dksX1_account_9 4 rfl rfl)
theorem dX1_account_254 : decode cX1_account 254 = .ok (.ireturn, 1) := dk_172 (dk_at dksX1_account_9 7 rfl rfl)
theorem dX1_account_255 : decode cX1_account 255 = .ok (.aload_n 0, 1) := dk_42 (dk_at dksX1_account_9 8 rfl rfl)
theorem dX1_account_256 : decode cX1_account 256 = .ok (.getfield 39, 3) := dk_180 0 39 (dk_at dksX1_account_9 9 rfl rfl)
theorem dX1_account_259 : decode cX1_account 259 = .ok (.invokevirtual 343, 3) := dk_182 1 87 (dk_at dksX1_account_9 12 rfl rfl)
theorem dX1_account_262 : decode cX1_account 262 = .ok (.ireturn, 1) := dk_172 (dk_at dksX1_account_9 15 rfl rfl)
theorem dX1_account_263 : decode cX1_account 263 = .ok (.aload_n 0, 1) := dk_42 (dk_at dksX1_account_9 16 rfl rfl)
theorem dX1_account_264 : decode cX1_account 264 = .ok (.getfield 39, 3) := dk_180 0 39 (dk_at dksX1_account_9 17 rfl rfl)
theorem dX1_account_267 : decode cX1_account 267 = .ok (.getfield 346, 3) := dk_180 1 90 (dk_at dksX1_account_9 20 rfl rfl)
theorem dX1_account_270 : decode cX1_account 270 = .ok (.ireturn, 1) := dk_172 (dk_at dksX1_account_9 23 rfl rfl)
theorem dX1_account_271 : decode cX1_account 271 = .ok (.aload_n 0, 1) := dk_42 (dk_at dksX1_account_10 0 rfl rfl)
theorem dX1_account_272 : decode cX1_account 272 = .ok (.getfield 53, 3) := dk_180 0 53 (dk_at dksX1_account_10 1 rfl rfl)
theorem dX1_account_275 : decode cX1_account 275 = .ok (.invokevirtual 348, 3) := dk_182 1 92 (dk_at dksX1_account_10 4 rfl rfl)
theorem dX1_account_278 : decode cX1_account 278 = .ok (.ireturn, 1) := dk_172 (dk_at dksX1_account_10 7 rfl rfl)
theorem dX1_account_279 : decode cX1_account 279 = .ok (.aload_n 0, 1) := dk_42 (dk_at dksX1_account_10 8 rfl rfl)
theorem dX1_account_280 : decode cX1_account 280 = .ok (.getfield 46, 3) := dk_180 0 46 (dk_at dksX1_account_10 9 rfl rfl)
theorem dX1_account_283 : decode cX1_account 283 = .ok (.invokevirtual 67, 3) := dk_182 0 67 (dk_at dksX1_account_10 12 rfl rfl)
theorem dX1_account_286 : decode cX1_account 286 = .ok (.ireturn, 1) := dk_172 (dk_at dksX1_account_10 15 rfl rfl)
theorem dX1_account_287 : decode cX1_account 287 = .ok (.new 1, 3) := dk_187 0 1 (dk_at dksX1_account_10 16 rfl rfl)
theorem dX1_account_290 : decode cX1_account 290 = .ok (.dup, 1) := dk_89 (dk_at dksX1_account_10 19 rfl rfl)
theorem dX1_account_291 : decode cX1_account 291 = .ok (.invokespecial 3, 3) := dk_183 0 3 (dk_at dksX1_account_10 20 rfl rfl)
theorem dX1_account_294 : decode cX1_account 294 = .ok (.athrow, 1) := dk_191 (dk_at dksX1_account_10 23 rfl rfl)
abbrev cX1_meanHeight : ByteArray := prog_1_method_46_code
def yX1_meanHeight : MethodName := ⟨RX1, "meanHeight", "()D"⟩
def dkwX1_meanHeight_1 : List UInt8 := [180, 0, 39, 3, 182, 1, 66, 135, 27, 135, 111, 175]
abbrev dktX1_meanHeight_1 : List UInt8 := dkwX1_meanHeight_1 ++ []
def dkwX1_meanHeight_0 : List UInt8 := [42, 180, 0, 39, 180, 1, 60, 182, 0, 109, 60, 27, 158, 0, 7, 4, 167, 0, 4, 3, 184, 1, 93, 42]
abbrev dktX1_meanHeight_0 : List UInt8 := dkwX1_meanHeight_0 ++ dktX1_meanHeight_1
theorem dksX1_meanHeight_0 : cX1_meanHeight.data.toList.drop 0 = dktX1_meanHeight_0 := by decide +kernel
theorem dksX1_meanHeight_1 : cX1_meanHeight.data.toList.drop 24 = dktX1_meanHeight_1 := dk_seg dksX1_meanHeight_0 24 rfl rfl
theorem dX1_meanHeight_0 : decode cX1_meanHeight 0 = .ok (.aload_n 0, 1) := dk_42 (dk_at dksX1_meanHeight_0 0 rfl rfl)
theorem dX1_meanHeight_1 : decode cX1_meanHeight 1 = .ok (.getfield 39, 3) := dk_180 0 39 (dk_at dksX1_meanHeight_0 1 rfl rfl)
theorem dX1_meanHeight_4 : decode cX1_meanHeight 4 = .ok (.getfield 316, 3) := dk_180 1 60 (dk_at dksX1_meanHeight_0 4 rfl rfl)
theorem dX1_meanHeight_7 : decode cX1_meanHeight 7 = .ok (.invokevirtual 109, 3) := dk_182 0 109 (dk_at dksX1_meanHeight_0 7 rfl rfl)
theorem dX1_meanHeight_10 : decode cX1_meanHeight 10 = .ok (.istore_n 1, 1) := dk_60 (dk_at dksX1_meanHeight_0 10 rfl rfl)
theorem dX1_meanHeight_11 : decode cX1_meanHeight 11 = .ok (.iload_n 1, 1) := dk_27 (dk_at dksX1_meanHeight_0 11 rfl rfl)
theorem dX1_meanHeight_12 : decode cX1_meanHeight 12 = .ok (.ifCond .le 7, 3) := dk_158 0 7 (dk_at dksX1_meanHeight_0 12 rfl rfl)
theorem dX1_meanHeight_15 : decode cX1_meanHeight 15 = .ok (.iconst 1, 1) := dk_4 (dk_at dksX1_meanHeight_0 15 rfl rfl)
theorem dX1_meanHeight_16 : decode cX1_meanHeight 16 = .ok (.goto 4, 3) := dk_167 0 4 (dk_at dksX1_meanHeight_0 16 rfl rfl)
theorem dX1_meanHeight_19 : decode cX1_meanHeight 19 = .ok (.iconst 0, 1) := dk_3 (dk_at dksX1_meanHeight_0 19 rfl rfl)
theorem dX1_meanHeight_20 : decode cX1_meanHeight 20 = .ok (.invokestatic 349, 3) := dk_184 1 93 (dk_at dksX1_meanHeight_0 20 rfl rfl)
theorem dX1_meanHeight_23 : decode cX1_meanHeight 23 = .ok (.aload_n 0, 1) := dk_42 (dk_at dksX1_meanHeight_0 23 rfl rfl)
theorem dX1_meanHeight_24 : decode cX1_meanHeight 24 = .ok (.getfield 39, 3) := dk_180 0 39 (dk_at dksX1_meanHeight_1 0 rfl rfl)
theorem dX1_meanHeight_27 : decode cX1_meanHeight 27 = .ok (.iconst 0, 1) := dk_3 (dk_at dksX1_meanHeight_1 3 rfl rfl)
theorem dX1_meanHeight_28 : decode cX1_meanHeight 28 = .ok (.invokevirtual 322, 3) := dk_182 1 66 (dk_at dksX1_meanHeight_1 4 rfl rfl)
theorem dX1_meanHeight_31 : decode cX1_meanHeight 31 = .ok (.i2d, 1) := dk_135 (dk_at dksX1_meanHeight_1 7 rfl rfl)
theorem dX1_meanHeight_32 : decode cX1_meanHeight 32 = .ok (.iload_n 1, 1) := dk_27 (dk_at dksX1_meanHeight_1 8 rfl rfl)
theorem dX1_meanHeight_33 : decode cX1_meanHeight 33 = .ok (.i2d, 1) := dk_135 (dk_at dksX1_meanHeight_1 9 rfl rfl)
theorem dX1_meanHeight_34 : decode cX1_meanHeight 34 = .ok (.ddiv, 1) := dk_111 (dk_at dksX1_meanHeight_1 10 rfl rfl)
theorem dX1_meanHeight_35 : decode cX1_meanHeight 35 = .ok (.dreturn, 1) := dk_175 (dk_at dksX1_meanHeight_1 11 rfl rfl)
abbrev cX1_checkNumbers : ByteArray := prog_1_method_6_code
def yX1_checkNumbers : MethodName := ⟨RX1, "checkNumbers", "(Z)V"⟩
def dkwX1_checkNumbers_0 : List UInt8 := [26, 154, 0, 11, 187, 0, 16, 89, 183, 0, 18, 191, 177]
abbrev dktX1_checkNumbers_0 : List UInt8 := dkwX1_checkNumbers_0 ++ []
theorem dksX1_checkNumbers_0 : cX1_checkNumbers.data.toList.drop 0 = dktX1_checkNumbers_0 := by decide +kernel
theorem dX1_checkNumbers_0 : decode cX1_checkNumbers 0 = .ok (.iload_n 0, 1) := dk_26 (dk_at dksX1_checkNumbers_0 0 rfl rfl)
theorem dX1_checkNumbers_1 : decode cX1_checkNumbers 1 = .ok (.ifCond .ne 11, 3) := dk_154 0 11 (dk_at dksX1_checkNumbers_0 1 rfl rfl)
theorem dX1_checkNumbers_4 : decode cX1_checkNumbers 4 = .ok (.new 16, 3) := dk_187 0 16 (dk_at dksX1_checkNumbers_0 4 rfl rfl)
theorem dX1_checkNumbers_7 : decode cX1_checkNumbers 7 = .ok (.dup, 1) := dk_89 (dk_at dksX1_checkNumbers_0 7 rfl rfl)
theorem dX1_checkNumbers_8 : decode cX1_checkNumbers 8 = .ok (.invokespecial 18, 3) := dk_183 0 18 (dk_at dksX1_checkNumbers_0 8 rfl rfl)
theorem dX1_checkNumbers_11 : decode cX1_checkNumbers 11 = .ok (.athrow, 1) := dk_191 (dk_at dksX1_checkNumbers_0 11 rfl rfl)
theorem dX1_checkNumbers_12 : decode cX1_checkNumbers 12 = .ok (.return_, 1) := dk_177 (dk_at dksX1_checkNumbers_0 12 rfl rfl)
abbrev cX1_balancedShare : ByteArray := prog_1_method_47_code
def yX1_balancedShare : MethodName := ⟨RX1, "balancedShare", "()F"⟩
def dkwX1_balancedShare_1 : List UInt8 := [42, 180, 0, 39, 182, 1, 87, 100, 134, 27, 134, 110, 174]
abbrev dktX1_balancedShare_1 : List UInt8 := dkwX1_balancedShare_1 ++ []
def dkwX1_balancedShare_0 : List UInt8 := [42, 180, 0, 39, 180, 1, 60, 182, 0, 109, 60, 27, 158, 0, 7, 4, 167, 0, 4, 3, 184, 1, 93, 27]
abbrev dktX1_balancedShare_0 : List UInt8 := dkwX1_balancedShare_0 ++ dktX1_balancedShare_1
theorem dksX1_balancedShare_0 : cX1_balancedShare.data.toList.drop 0 = dktX1_balancedShare_0 := by decide +kernel
theorem dksX1_balancedShare_1 : cX1_balancedShare.data.toList.drop 24 = dktX1_balancedShare_1 := dk_seg dksX1_balancedShare_0 24 rfl rfl
theorem dX1_balancedShare_0 : decode cX1_balancedShare 0 = .ok (.aload_n 0, 1) := dk_42 (dk_at dksX1_balancedShare_0 0 rfl rfl)
theorem dX1_balancedShare_1 : decode cX1_balancedShare 1 = .ok (.getfield 39, 3) := dk_180 0 39 (dk_at dksX1_balancedShare_0 1 rfl rfl)
theorem dX1_balancedShare_4 : decode cX1_balancedShare 4 = .ok (.getfield 316, 3) := dk_180 1 60 (dk_at dksX1_balancedShare_0 4 rfl rfl)
theorem dX1_balancedShare_7 : decode cX1_balancedShare 7 = .ok (.invokevirtual 109, 3) := dk_182 0 109 (dk_at dksX1_balancedShare_0 7 rfl rfl)
theorem dX1_balancedShare_10 : decode cX1_balancedShare 10 = .ok (.istore_n 1, 1) := dk_60 (dk_at dksX1_balancedShare_0 10 rfl rfl)
theorem dX1_balancedShare_11 : decode cX1_balancedShare 11 = .ok (.iload_n 1, 1) := dk_27 (dk_at dksX1_balancedShare_0 11 rfl rfl)
theorem dX1_balancedShare_12 : decode cX1_balancedShare 12 = .ok (.ifCond .le 7, 3) := dk_158 0 7 (dk_at dksX1_balancedShare_0 12 rfl rfl)
theorem dX1_balancedShare_15 : decode cX1_balancedShare 15 = .ok (.iconst 1, 1) := dk_4 (dk_at dksX1_balancedShare_0 15 rfl rfl)
theorem dX1_balancedShare_16 : decode cX1_balancedShare 16 = .ok (.goto 4, 3) := dk_167 0 4 (dk_at dksX1_balancedShare_0 16 rfl rfl)
theorem dX1_balancedShare_19 : decode cX1_balancedShare 19 = .ok (.iconst 0, 1) := dk_3 (dk_at dksX1_balancedShare_0 19 rfl rfl)
theorem dX1_balancedShare_20 : decode cX1_balancedShare 20 = .ok (.invokestatic 349, 3) := dk_184 1 93 (dk_at dksX1_balancedShare_0 20 rfl rfl)
theorem dX1_balancedShare_23 : decode cX1_balancedShare 23 = .ok (.iload_n 1, 1) := dk_27 (dk_at dksX1_balancedShare_0 23 rfl rfl)
theorem dX1_balancedShare_24 : decode cX1_balancedShare 24 = .ok (.aload_n 0, 1) := dk_42 (dk_at dksX1_balancedShare_1 0 rfl rfl)
theorem dX1_balancedShare_25 : decode cX1_balancedShare 25 = .ok (.getfield 39, 3) := dk_180 0 39 (dk_at dksX1_balancedShare_1 1 rfl rfl)
theorem dX1_balancedShare_28 : decode cX1_balancedShare 28 = .ok (.invokevirtual 343, 3) := dk_182 1 87 (dk_at dksX1_balancedShare_1 4 rfl rfl)
theorem dX1_balancedShare_31 : decode cX1_balancedShare 31 = .ok (.isub, 1) := dk_100 (dk_at dksX1_balancedShare_1 7 rfl rfl)
theorem dX1_balancedShare_32 : decode cX1_balancedShare 32 = .ok (.i2f, 1) := dk_134 (dk_at dksX1_balancedShare_1 8 rfl rfl)
theorem dX1_balancedShare_33 : decode cX1_balancedShare 33 = .ok (.iload_n 1, 1) := dk_27 (dk_at dksX1_balancedShare_1 9 rfl rfl)
theorem dX1_balancedShare_34 : decode cX1_balancedShare 34 = .ok (.i2f, 1) := dk_134 (dk_at dksX1_balancedShare_1 10 rfl rfl)
theorem dX1_balancedShare_35 : decode cX1_balancedShare 35 = .ok (.fdiv, 1) := dk_110 (dk_at dksX1_balancedShare_1 11 rfl rfl)
theorem dX1_balancedShare_36 : decode cX1_balancedShare 36 = .ok (.freturn, 1) := dk_174 (dk_at dksX1_balancedShare_1 12 rfl rfl)
abbrev cX1_append : ByteArray := prog_1_method_48_code
def yX1_append : MethodName := ⟨RX1, "append", "(I)I"⟩
def dkwX1_append_5 : List UInt8 := [182, 1, 100, 87, 132, 3, 248, 167, 255, 224, 42, 180, 0, 53, 182, 1, 92, 172]
abbrev dktX1_append_5 : List UInt8 := dkwX1_append_5 ++ []
def dkwX1_append_4 : List UInt8 := [155, 0, 34, 27, 29, 124, 17, 0, 255, 126, 54, 4, 21, 4, 153, 0, 14, 42, 180, 0, 53, 21, 4, 146]
abbrev dktX1_append_4 : List UInt8 := dkwX1_append_4 ++ dktX1_append_5
def dkwX1_append_3 : List UInt8 := [182, 1, 92, 28, 96, 16, 60, 163, 0, 7, 4, 167, 0, 4, 3, 184, 1, 50, 16, 24, 62, 29]
abbrev dktX1_append_3 : List UInt8 := dkwX1_append_3 ++ dktX1_append_4
def dkwX1_append_2 : List UInt8 := [21, 4, 154, 0, 7, 3, 167, 0, 4, 4, 96, 61, 132, 3, 248, 167, 255, 199, 42, 180, 0, 53]
abbrev dktX1_append_2 : List UInt8 := dkwX1_append_2 ++ dktX1_append_3
def dkwX1_append_1 : List UInt8 := [21, 4, 133, 20, 1, 96, 20, 1, 98, 184, 0, 23, 153, 0, 7, 4, 167, 0, 4, 3, 184, 0, 27, 28]
abbrev dktX1_append_1 : List UInt8 := dkwX1_append_1 ++ dktX1_append_2
def dkwX1_append_0 : List UInt8 := [3, 61, 16, 24, 62, 29, 155, 0, 59, 27, 29, 124, 17, 0, 255, 126, 54, 4, 21, 4, 153, 0, 18]
abbrev dktX1_append_0 : List UInt8 := dkwX1_append_0 ++ dktX1_append_1
theorem dksX1_append_0 : cX1_append.data.toList.drop 0 = dktX1_append_0 := by decide +kernel
theorem dksX1_append_1 : cX1_append.data.toList.drop 23 = dktX1_append_1 := dk_seg dksX1_append_0 23 rfl rfl
theorem dksX1_append_2 : cX1_append.data.toList.drop 47 = dktX1_append_2 := dk_seg dksX1_append_1 24 rfl rfl
theorem dksX1_append_3 : cX1_append.data.toList.drop 69 = dktX1_append_3 := dk_seg dksX1_append_2 22 rfl rfl
theorem dksX1_append_4 : cX1_append.data.toList.drop 91 = dktX1_append_4 := dk_seg dksX1_append_3 22 rfl rfl
theorem dksX1_append_5 : cX1_append.data.toList.drop 115 = dktX1_append_5 := dk_seg dksX1_append_4 24 rfl rfl
theorem dX1_append_0 : decode cX1_append 0 = .ok (.iconst 0, 1) := dk_3 (dk_at dksX1_append_0 0 rfl rfl)
theorem dX1_append_1 : decode cX1_append 1 = .ok (.istore_n 2, 1) := dk_61 (dk_at dksX1_append_0 1 rfl rfl)
theorem dX1_append_2 : decode cX1_append 2 = .ok (.bipush 24, 2) := dk_16 24 (dk_at dksX1_append_0 2 rfl rfl)
theorem dX1_append_4 : decode cX1_append 4 = .ok (.istore_n 3, 1) := dk_62 (dk_at dksX1_append_0 4 rfl rfl)
theorem dX1_append_5 : decode cX1_append 5 = .ok (.iload_n 3, 1) := dk_29 (dk_at dksX1_append_0 5 rfl rfl)
theorem dX1_append_6 : decode cX1_append 6 = .ok (.ifCond .lt 59, 3) := dk_155 0 59 (dk_at dksX1_append_0 6 rfl rfl)
theorem dX1_append_9 : decode cX1_append 9 = .ok (.iload_n 1, 1) := dk_27 (dk_at dksX1_append_0 9 rfl rfl)
theorem dX1_append_10 : decode cX1_append 10 = .ok (.iload_n 3, 1) := dk_29 (dk_at dksX1_append_0 10 rfl rfl)
theorem dX1_append_11 : decode cX1_append 11 = .ok (.iushr, 1) := dk_124 (dk_at dksX1_append_0 11 rfl rfl)
theorem dX1_append_12 : decode cX1_append 12 = .ok (.sipush 255, 3) := dk_17 0 255 (dk_at dksX1_append_0 12 rfl rfl)
theorem dX1_append_15 : decode cX1_append 15 = .ok (.iand, 1) := dk_126 (dk_at dksX1_append_0 15 rfl rfl)
theorem dX1_append_16 : decode cX1_append 16 = .ok (.istore 4, 2) := dk_54 4 (dk_at dksX1_append_0 16 rfl rfl)
theorem dX1_append_18 : decode cX1_append 18 = .ok (.iload 4, 2) := dk_21 4 (dk_at dksX1_append_0 18 rfl rfl)
theorem dX1_append_20 : decode cX1_append 20 = .ok (.ifCond .eq 18, 3) := dk_153 0 18 (dk_at dksX1_append_0 20 rfl rfl)
theorem dX1_append_23 : decode cX1_append 23 = .ok (.iload 4, 2) := dk_21 4 (dk_at dksX1_append_1 0 rfl rfl)
theorem dX1_append_25 : decode cX1_append 25 = .ok (.i2l, 1) := dk_133 (dk_at dksX1_append_1 2 rfl rfl)
theorem dX1_append_26 : decode cX1_append 26 = .ok (.ldc2_w 352, 3) := dk_20 1 96 (dk_at dksX1_append_1 3 rfl rfl)
theorem dX1_append_29 : decode cX1_append 29 = .ok (.ldc2_w 354, 3) := dk_20 1 98 (dk_at dksX1_append_1 6 rfl rfl)
theorem dX1_append_32 : decode cX1_append 32 = .ok (.invokestatic 23, 3) := dk_184 0 23 (dk_at dksX1_append_1 9 rfl rfl)
theorem dX1_append_35 : decode cX1_append 35 = .ok (.ifCond .eq 7, 3) := dk_153 0 7 (dk_at dksX1_append_1 12 rfl rfl)
theorem dX1_append_38 : decode cX1_append 38 = .ok (.iconst 1, 1) := dk_4 (dk_at dksX1_append_1 15 rfl rfl)
theorem dX1_append_39 : decode cX1_append 39 = .ok (.goto 4, 3) := dk_167 0 4 (dk_at dksX1_append_1 16 rfl rfl)
theorem dX1_append_42 : decode cX1_append 42 = .ok (.iconst 0, 1) := dk_3 (dk_at dksX1_append_1 19 rfl rfl)
theorem dX1_append_43 : decode cX1_append 43 = .ok (.invokestatic 27, 3) := dk_184 0 27 (dk_at dksX1_append_1 20 rfl rfl)
theorem dX1_append_46 : decode cX1_append 46 = .ok (.iload_n 2, 1) := dk_28 (dk_at dksX1_append_1 23 rfl rfl)
theorem dX1_append_47 : decode cX1_append 47 = .ok (.iload 4, 2) := dk_21 4 (dk_at dksX1_append_2 0 rfl rfl)
theorem dX1_append_49 : decode cX1_append 49 = .ok (.ifCond .ne 7, 3) := dk_154 0 7 (dk_at dksX1_append_2 2 rfl rfl)
theorem dX1_append_52 : decode cX1_append 52 = .ok (.iconst 0, 1) := dk_3 (dk_at dksX1_append_2 5 rfl rfl)
theorem dX1_append_53 : decode cX1_append 53 = .ok (.goto 4, 3) := dk_167 0 4 (dk_at dksX1_append_2 6 rfl rfl)
theorem dX1_append_56 : decode cX1_append 56 = .ok (.iconst 1, 1) := dk_4 (dk_at dksX1_append_2 9 rfl rfl)
theorem dX1_append_57 : decode cX1_append 57 = .ok (.iadd, 1) := dk_96 (dk_at dksX1_append_2 10 rfl rfl)
theorem dX1_append_58 : decode cX1_append 58 = .ok (.istore_n 2, 1) := dk_61 (dk_at dksX1_append_2 11 rfl rfl)
theorem dX1_append_59 : decode cX1_append 59 = .ok (.iinc 3 (-8), 3) := dk_132 3 248 (dk_at dksX1_append_2 12 rfl rfl)
theorem dX1_append_62 : decode cX1_append 62 = .ok (.goto (-57), 3) := dk_167 255 199 (dk_at dksX1_append_2 15 rfl rfl)
theorem dX1_append_65 : decode cX1_append 65 = .ok (.aload_n 0, 1) := dk_42 (dk_at dksX1_append_2 18 rfl rfl)
theorem dX1_append_66 : decode cX1_append 66 = .ok (.getfield 53, 3) := dk_180 0 53 (dk_at dksX1_append_2 19 rfl rfl)
theorem dX1_append_69 : decode cX1_append 69 = .ok (.invokevirtual 348, 3) := dk_182 1 92 (dk_at dksX1_append_3 0 rfl rfl)
theorem dX1_append_72 : decode cX1_append 72 = .ok (.iload_n 2, 1) := dk_28 (dk_at dksX1_append_3 3 rfl rfl)
theorem dX1_append_73 : decode cX1_append 73 = .ok (.iadd, 1) := dk_96 (dk_at dksX1_append_3 4 rfl rfl)
theorem dX1_append_74 : decode cX1_append 74 = .ok (.bipush 60, 2) := dk_16 60 (dk_at dksX1_append_3 5 rfl rfl)
theorem dX1_append_76 : decode cX1_append 76 = .ok (.if_icmp .gt 7, 3) := dk_163 0 7 (dk_at dksX1_append_3 7 rfl rfl)
theorem dX1_append_79 : decode cX1_append 79 = .ok (.iconst 1, 1) := dk_4 (dk_at dksX1_append_3 10 rfl rfl)
theorem dX1_append_80 : decode cX1_append 80 = .ok (.goto 4, 3) := dk_167 0 4 (dk_at dksX1_append_3 11 rfl rfl)
theorem dX1_append_83 : decode cX1_append 83 = .ok (.iconst 0, 1) := dk_3 (dk_at dksX1_append_3 14 rfl rfl)
theorem dX1_append_84 : decode cX1_append 84 = .ok (.invokestatic 306, 3) := dk_184 1 50 (dk_at dksX1_append_3 15 rfl rfl)
theorem dX1_append_87 : decode cX1_append 87 = .ok (.bipush 24, 2) := dk_16 24 (dk_at dksX1_append_3 18 rfl rfl)
theorem dX1_append_89 : decode cX1_append 89 = .ok (.istore_n 3, 1) := dk_62 (dk_at dksX1_append_3 20 rfl rfl)
theorem dX1_append_90 : decode cX1_append 90 = .ok (.iload_n 3, 1) := dk_29 (dk_at dksX1_append_3 21 rfl rfl)
theorem dX1_append_91 : decode cX1_append 91 = .ok (.ifCond .lt 34, 3) := dk_155 0 34 (dk_at dksX1_append_4 0 rfl rfl)
theorem dX1_append_94 : decode cX1_append 94 = .ok (.iload_n 1, 1) := dk_27 (dk_at dksX1_append_4 3 rfl rfl)
theorem dX1_append_95 : decode cX1_append 95 = .ok (.iload_n 3, 1) := dk_29 (dk_at dksX1_append_4 4 rfl rfl)
theorem dX1_append_96 : decode cX1_append 96 = .ok (.iushr, 1) := dk_124 (dk_at dksX1_append_4 5 rfl rfl)
theorem dX1_append_97 : decode cX1_append 97 = .ok (.sipush 255, 3) := dk_17 0 255 (dk_at dksX1_append_4 6 rfl rfl)
theorem dX1_append_100 : decode cX1_append 100 = .ok (.iand, 1) := dk_126 (dk_at dksX1_append_4 9 rfl rfl)
theorem dX1_append_101 : decode cX1_append 101 = .ok (.istore 4, 2) := dk_54 4 (dk_at dksX1_append_4 10 rfl rfl)
theorem dX1_append_103 : decode cX1_append 103 = .ok (.iload 4, 2) := dk_21 4 (dk_at dksX1_append_4 12 rfl rfl)
theorem dX1_append_105 : decode cX1_append 105 = .ok (.ifCond .eq 14, 3) := dk_153 0 14 (dk_at dksX1_append_4 14 rfl rfl)
theorem dX1_append_108 : decode cX1_append 108 = .ok (.aload_n 0, 1) := dk_42 (dk_at dksX1_append_4 17 rfl rfl)
theorem dX1_append_109 : decode cX1_append 109 = .ok (.getfield 53, 3) := dk_180 0 53 (dk_at dksX1_append_4 18 rfl rfl)
theorem dX1_append_112 : decode cX1_append 112 = .ok (.iload 4, 2) := dk_21 4 (dk_at dksX1_append_4 21 rfl rfl)
theorem dX1_append_114 : decode cX1_append 114 = .ok (.i2c, 1) := dk_146 (dk_at dksX1_append_4 23 rfl rfl)
theorem dX1_append_115 : decode cX1_append 115 = .ok (.invokevirtual 356, 3) := dk_182 1 100 (dk_at dksX1_append_5 0 rfl rfl)
theorem dX1_append_118 : decode cX1_append 118 = .ok (.pop, 1) := dk_87 (dk_at dksX1_append_5 3 rfl rfl)
theorem dX1_append_119 : decode cX1_append 119 = .ok (.iinc 3 (-8), 3) := dk_132 3 248 (dk_at dksX1_append_5 4 rfl rfl)
theorem dX1_append_122 : decode cX1_append 122 = .ok (.goto (-32), 3) := dk_167 255 224 (dk_at dksX1_append_5 7 rfl rfl)
theorem dX1_append_125 : decode cX1_append 125 = .ok (.aload_n 0, 1) := dk_42 (dk_at dksX1_append_5 10 rfl rfl)
theorem dX1_append_126 : decode cX1_append 126 = .ok (.getfield 53, 3) := dk_180 0 53 (dk_at dksX1_append_5 11 rfl rfl)
theorem dX1_append_129 : decode cX1_append 129 = .ok (.invokevirtual 348, 3) := dk_182 1 92 (dk_at dksX1_append_5 14 rfl rfl)
theorem dX1_append_132 : decode cX1_append 132 = .ok (.ireturn, 1) := dk_172 (dk_at dksX1_append_5 17 rfl rfl)
abbrev cX1_read : ByteArray := prog_1_method_50_code
def yX1_read : MethodName := ⟨RX1, "read", "()I"⟩
def dkwX1_read_4 : List UInt8 := [183, 0, 100, 191, 42, 44, 182, 0, 101, 29, 172]
abbrev dktX1_read_4 : List UInt8 := dkwX1_read_4 ++ []
def dkwX1_read_3 : List UInt8 := [181, 0, 94, 187, 0, 98, 89, 183, 0, 100, 191, 58, 4, 42, 29, 181, 0, 63, 187, 0, 98, 89]
abbrev dktX1_read_3 : List UInt8 := dkwX1_read_3 ++ dktX1_read_4
def dkwX1_read_2 : List UInt8 := [182, 0, 88, 54, 6, 132, 3, 1, 167, 255, 223, 167, 0, 39, 58, 4, 42, 29, 181, 0, 63, 42, 25, 4]
abbrev dktX1_read_2 : List UInt8 := dkwX1_read_2 ++ dktX1_read_3
def dkwX1_read_1 : List UInt8 := [185, 0, 181, 1, 0, 153, 0, 29, 25, 4, 185, 0, 187, 1, 0, 192, 0, 83, 58, 5, 25, 5, 44]
abbrev dktX1_read_1 : List UInt8 := dkwX1_read_1 ++ dktX1_read_2
def dkwX1_read_0 : List UInt8 := [42, 182, 1, 119, 76, 42, 180, 0, 39, 182, 0, 79, 77, 3, 62, 43, 182, 1, 122, 58, 4, 25, 4]
abbrev dktX1_read_0 : List UInt8 := dkwX1_read_0 ++ dktX1_read_1
theorem dksX1_read_0 : cX1_read.data.toList.drop 0 = dktX1_read_0 := by decide +kernel
theorem dksX1_read_1 : cX1_read.data.toList.drop 23 = dktX1_read_1 := dk_seg dksX1_read_0 23 rfl rfl
theorem dksX1_read_2 : cX1_read.data.toList.drop 46 = dktX1_read_2 := dk_seg dksX1_read_1 23 rfl rfl
theorem dksX1_read_3 : cX1_read.data.toList.drop 70 = dktX1_read_3 := dk_seg dksX1_read_2 24 rfl rfl
theorem dksX1_read_4 : cX1_read.data.toList.drop 92 = dktX1_read_4 := dk_seg dksX1_read_3 22 rfl rfl
theorem dX1_read_0 : decode cX1_read 0 = .ok (.aload_n 0, 1) := dk_42 (dk_at dksX1_read_0 0 rfl rfl)
theorem dX1_read_1 : decode cX1_read 1 = .ok (.invokevirtual 375, 3) := dk_182 1 119 (dk_at dksX1_read_0 1 rfl rfl)
theorem dX1_read_4 : decode cX1_read 4 = .ok (.astore_n 1, 1) := dk_76 (dk_at dksX1_read_0 4 rfl rfl)
theorem dX1_read_5 : decode cX1_read 5 = .ok (.aload_n 0, 1) := dk_42 (dk_at dksX1_read_0 5 rfl rfl)
theorem dX1_read_6 : decode cX1_read 6 = .ok (.getfield 39, 3) := dk_180 0 39 (dk_at dksX1_read_0 6 rfl rfl)
theorem dX1_read_9 : decode cX1_read 9 = .ok (.invokevirtual 79, 3) := dk_182 0 79 (dk_at dksX1_read_0 9 rfl rfl)
theorem dX1_read_12 : decode cX1_read 12 = .ok (.astore_n 2, 1) := dk_77 (dk_at dksX1_read_0 12 rfl rfl)
theorem dX1_read_13 : decode cX1_read 13 = .ok (.iconst 0, 1) := dk_3 (dk_at dksX1_read_0 13 rfl rfl)
theorem dX1_read_14 : decode cX1_read 14 = .ok (.istore_n 3, 1) := dk_62 (dk_at dksX1_read_0 14 rfl rfl)
theorem dX1_read_15 : decode cX1_read 15 = .ok (.aload_n 1, 1) := dk_43 (dk_at dksX1_read_0 15 rfl rfl)
theorem dX1_read_16 : decode cX1_read 16 = .ok (.invokevirtual 378, 3) := dk_182 1 122 (dk_at dksX1_read_0 16 rfl rfl)
theorem dX1_read_19 : decode cX1_read 19 = .ok (.astore 4, 2) := dk_58 4 (dk_at dksX1_read_0 19 rfl rfl)
theorem dX1_read_21 : decode cX1_read 21 = .ok (.aload 4, 2) := dk_25 4 (dk_at dksX1_read_0 21 rfl rfl)
theorem dX1_read_23 : decode cX1_read 23 = .ok (.invokeinterface 181 1, 5) := by decide +kernel
theorem dX1_read_28 : decode cX1_read 28 = .ok (.ifCond .eq 29, 3) := dk_153 0 29 (dk_at dksX1_read_1 5 rfl rfl)
theorem dX1_read_31 : decode cX1_read 31 = .ok (.aload 4, 2) := dk_25 4 (dk_at dksX1_read_1 8 rfl rfl)
theorem dX1_read_33 : decode cX1_read 33 = .ok (.invokeinterface 187 1, 5) := by decide +kernel
theorem dX1_read_38 : decode cX1_read 38 = .ok (.checkcast 83, 3) := dk_192 0 83 (dk_at dksX1_read_1 15 rfl rfl)
theorem dX1_read_41 : decode cX1_read 41 = .ok (.astore 5, 2) := dk_58 5 (dk_at dksX1_read_1 18 rfl rfl)
theorem dX1_read_43 : decode cX1_read 43 = .ok (.aload 5, 2) := dk_25 5 (dk_at dksX1_read_1 20 rfl rfl)
theorem dX1_read_45 : decode cX1_read 45 = .ok (.aload_n 2, 1) := dk_44 (dk_at dksX1_read_1 22 rfl rfl)
theorem dX1_read_46 : decode cX1_read 46 = .ok (.invokevirtual 88, 3) := dk_182 0 88 (dk_at dksX1_read_2 0 rfl rfl)
theorem dX1_read_49 : decode cX1_read 49 = .ok (.istore 6, 2) := dk_54 6 (dk_at dksX1_read_2 3 rfl rfl)
theorem dX1_read_51 : decode cX1_read 51 = .ok (.iinc 3 1, 3) := dk_132 3 1 (dk_at dksX1_read_2 5 rfl rfl)
theorem dX1_read_54 : decode cX1_read 54 = .ok (.goto (-33), 3) := dk_167 255 223 (dk_at dksX1_read_2 8 rfl rfl)
theorem dX1_read_57 : decode cX1_read 57 = .ok (.goto 39, 3) := dk_167 0 39 (dk_at dksX1_read_2 11 rfl rfl)
theorem dX1_read_60 : decode cX1_read 60 = .ok (.astore 4, 2) := dk_58 4 (dk_at dksX1_read_2 14 rfl rfl)
theorem dX1_read_62 : decode cX1_read 62 = .ok (.aload_n 0, 1) := dk_42 (dk_at dksX1_read_2 16 rfl rfl)
theorem dX1_read_63 : decode cX1_read 63 = .ok (.iload_n 3, 1) := dk_29 (dk_at dksX1_read_2 17 rfl rfl)
theorem dX1_read_64 : decode cX1_read 64 = .ok (.putfield 63, 3) := dk_181 0 63 (dk_at dksX1_read_2 18 rfl rfl)
theorem dX1_read_67 : decode cX1_read 67 = .ok (.aload_n 0, 1) := dk_42 (dk_at dksX1_read_2 21 rfl rfl)
theorem dX1_read_68 : decode cX1_read 68 = .ok (.aload 4, 2) := dk_25 4 (dk_at dksX1_read_2 22 rfl rfl)
theorem dX1_read_70 : decode cX1_read 70 = .ok (.putfield 94, 3) := dk_181 0 94 (dk_at dksX1_read_3 0 rfl rfl)
theorem dX1_read_73 : decode cX1_read 73 = .ok (.new 98, 3) := dk_187 0 98 (dk_at dksX1_read_3 3 rfl rfl)
theorem dX1_read_76 : decode cX1_read 76 = .ok (.dup, 1) := dk_89 (dk_at dksX1_read_3 6 rfl rfl)
theorem dX1_read_77 : decode cX1_read 77 = .ok (.invokespecial 100, 3) := dk_183 0 100 (dk_at dksX1_read_3 7 rfl rfl)
theorem dX1_read_80 : decode cX1_read 80 = .ok (.athrow, 1) := dk_191 (dk_at dksX1_read_3 10 rfl rfl)
theorem dX1_read_81 : decode cX1_read 81 = .ok (.astore 4, 2) := dk_58 4 (dk_at dksX1_read_3 11 rfl rfl)
theorem dX1_read_83 : decode cX1_read 83 = .ok (.aload_n 0, 1) := dk_42 (dk_at dksX1_read_3 13 rfl rfl)
theorem dX1_read_84 : decode cX1_read 84 = .ok (.iload_n 3, 1) := dk_29 (dk_at dksX1_read_3 14 rfl rfl)
theorem dX1_read_85 : decode cX1_read 85 = .ok (.putfield 63, 3) := dk_181 0 63 (dk_at dksX1_read_3 15 rfl rfl)
theorem dX1_read_88 : decode cX1_read 88 = .ok (.new 98, 3) := dk_187 0 98 (dk_at dksX1_read_3 18 rfl rfl)
theorem dX1_read_91 : decode cX1_read 91 = .ok (.dup, 1) := dk_89 (dk_at dksX1_read_3 21 rfl rfl)
theorem dX1_read_92 : decode cX1_read 92 = .ok (.invokespecial 100, 3) := dk_183 0 100 (dk_at dksX1_read_4 0 rfl rfl)
theorem dX1_read_95 : decode cX1_read 95 = .ok (.athrow, 1) := dk_191 (dk_at dksX1_read_4 3 rfl rfl)
theorem dX1_read_96 : decode cX1_read 96 = .ok (.aload_n 0, 1) := dk_42 (dk_at dksX1_read_4 4 rfl rfl)
theorem dX1_read_97 : decode cX1_read 97 = .ok (.aload_n 2, 1) := dk_44 (dk_at dksX1_read_4 5 rfl rfl)
theorem dX1_read_98 : decode cX1_read 98 = .ok (.invokevirtual 101, 3) := dk_182 0 101 (dk_at dksX1_read_4 6 rfl rfl)
theorem dX1_read_101 : decode cX1_read 101 = .ok (.iload_n 3, 1) := dk_29 (dk_at dksX1_read_4 9 rfl rfl)
theorem dX1_read_102 : decode cX1_read 102 = .ok (.ireturn, 1) := dk_172 (dk_at dksX1_read_4 10 rfl rfl)
abbrev cX1_takeItems : ByteArray := prog_1_method_49_code
def yX1_takeItems : MethodName := ⟨RX1, "takeItems", "()Ljava/util/ArrayList;"⟩
def dkwX1_takeItems_1 : List UInt8 := [182, 1, 109, 176, 77, 42, 44, 181, 1, 115, 187, 0, 1, 89, 183, 0, 3, 191]
abbrev dktX1_takeItems_1 : List UInt8 := dkwX1_takeItems_1 ++ []
def dkwX1_takeItems_0 : List UInt8 := [187, 1, 104, 89, 42, 180, 0, 53, 183, 1, 106, 76, 42, 187, 0, 50, 89, 183, 0, 52, 181, 0, 53, 43]
abbrev dktX1_takeItems_0 : List UInt8 := dkwX1_takeItems_0 ++ dktX1_takeItems_1
theorem dksX1_takeItems_0 : cX1_takeItems.data.toList.drop 0 = dktX1_takeItems_0 := by decide +kernel
theorem dksX1_takeItems_1 : cX1_takeItems.data.toList.drop 24 = dktX1_takeItems_1 := dk_seg dksX1_takeItems_0 24 rfl rfl
theorem dX1_takeItems_0 : decode cX1_takeItems 0 = .ok (.new 360, 3) := dk_187 1 104 (dk_at dksX1_takeItems_0 0 rfl rfl)
theorem dX1_takeItems_3 : decode cX1_takeItems 3 = .ok (.dup, 1) := dk_89 (dk_at dksX1_takeItems_0 3 rfl rfl)
theorem dX1_takeItems_4 : decode cX1_takeItems 4 = .ok (.aload_n 0, 1) := dk_42 (dk_at dksX1_takeItems_0 4 rfl rfl)
theorem dX1_takeItems_5 : decode cX1_takeItems 5 = .ok (.getfield 53, 3) := dk_180 0 53 (dk_at dksX1_takeItems_0 5 rfl rfl)
theorem dX1_takeItems_8 : decode cX1_takeItems 8 = .ok (.invokespecial 362, 3) := dk_183 1 106 (dk_at dksX1_takeItems_0 8 rfl rfl)
theorem dX1_takeItems_11 : decode cX1_takeItems 11 = .ok (.astore_n 1, 1) := dk_76 (dk_at dksX1_takeItems_0 11 rfl rfl)
theorem dX1_takeItems_12 : decode cX1_takeItems 12 = .ok (.aload_n 0, 1) := dk_42 (dk_at dksX1_takeItems_0 12 rfl rfl)
theorem dX1_takeItems_13 : decode cX1_takeItems 13 = .ok (.new 50, 3) := dk_187 0 50 (dk_at dksX1_takeItems_0 13 rfl rfl)
theorem dX1_takeItems_16 : decode cX1_takeItems 16 = .ok (.dup, 1) := dk_89 (dk_at dksX1_takeItems_0 16 rfl rfl)
theorem dX1_takeItems_17 : decode cX1_takeItems 17 = .ok (.invokespecial 52, 3) := dk_183 0 52 (dk_at dksX1_takeItems_0 17 rfl rfl)
theorem dX1_takeItems_20 : decode cX1_takeItems 20 = .ok (.putfield 53, 3) := dk_181 0 53 (dk_at dksX1_takeItems_0 20 rfl rfl)
theorem dX1_takeItems_23 : decode cX1_takeItems 23 = .ok (.aload_n 1, 1) := dk_43 (dk_at dksX1_takeItems_0 23 rfl rfl)
theorem dX1_takeItems_24 : decode cX1_takeItems 24 = .ok (.invokevirtual 365, 3) := dk_182 1 109 (dk_at dksX1_takeItems_1 0 rfl rfl)
theorem dX1_takeItems_27 : decode cX1_takeItems 27 = .ok (.areturn, 1) := dk_176 (dk_at dksX1_takeItems_1 3 rfl rfl)
theorem dX1_takeItems_28 : decode cX1_takeItems 28 = .ok (.astore_n 2, 1) := dk_77 (dk_at dksX1_takeItems_1 4 rfl rfl)
theorem dX1_takeItems_29 : decode cX1_takeItems 29 = .ok (.aload_n 0, 1) := dk_42 (dk_at dksX1_takeItems_1 5 rfl rfl)
theorem dX1_takeItems_30 : decode cX1_takeItems 30 = .ok (.aload_n 2, 1) := dk_44 (dk_at dksX1_takeItems_1 6 rfl rfl)
theorem dX1_takeItems_31 : decode cX1_takeItems 31 = .ok (.putfield 371, 3) := dk_181 1 115 (dk_at dksX1_takeItems_1 7 rfl rfl)
theorem dX1_takeItems_34 : decode cX1_takeItems 34 = .ok (.new 1, 3) := dk_187 0 1 (dk_at dksX1_takeItems_1 10 rfl rfl)
theorem dX1_takeItems_37 : decode cX1_takeItems 37 = .ok (.dup, 1) := dk_89 (dk_at dksX1_takeItems_1 13 rfl rfl)
theorem dX1_takeItems_38 : decode cX1_takeItems 38 = .ok (.invokespecial 3, 3) := dk_183 0 3 (dk_at dksX1_takeItems_1 14 rfl rfl)
theorem dX1_takeItems_41 : decode cX1_takeItems 41 = .ok (.athrow, 1) := dk_191 (dk_at dksX1_takeItems_1 17 rfl rfl)
abbrev cX1_errorPosition : ByteArray := prog_1_method_51_code
def yX1_errorPosition : MethodName := ⟨RX1, "errorPosition", "()I"⟩
def dkwX1_errorPosition_0 : List UInt8 := [42, 180, 1, 115, 198, 0, 7, 4, 167, 0, 4, 3, 184, 0, 206, 42, 180, 1, 115, 180, 1, 123, 172]
abbrev dktX1_errorPosition_0 : List UInt8 := dkwX1_errorPosition_0 ++ []
theorem dksX1_errorPosition_0 : cX1_errorPosition.data.toList.drop 0 = dktX1_errorPosition_0 := by decide +kernel
theorem dX1_errorPosition_0 : decode cX1_errorPosition 0 = .ok (.aload_n 0, 1) := dk_42 (dk_at dksX1_errorPosition_0 0 rfl rfl)
theorem dX1_errorPosition_1 : decode cX1_errorPosition 1 = .ok (.getfield 371, 3) := dk_180 1 115 (dk_at dksX1_errorPosition_0 1 rfl rfl)
theorem dX1_errorPosition_4 : decode cX1_errorPosition 4 = .ok (.ifnull 7, 3) := dk_198 0 7 (dk_at dksX1_errorPosition_0 4 rfl rfl)
theorem dX1_errorPosition_7 : decode cX1_errorPosition 7 = .ok (.iconst 1, 1) := dk_4 (dk_at dksX1_errorPosition_0 7 rfl rfl)
theorem dX1_errorPosition_8 : decode cX1_errorPosition 8 = .ok (.goto 4, 3) := dk_167 0 4 (dk_at dksX1_errorPosition_0 8 rfl rfl)
theorem dX1_errorPosition_11 : decode cX1_errorPosition 11 = .ok (.iconst 0, 1) := dk_3 (dk_at dksX1_errorPosition_0 11 rfl rfl)
theorem dX1_errorPosition_12 : decode cX1_errorPosition 12 = .ok (.invokestatic 206, 3) := dk_184 0 206 (dk_at dksX1_errorPosition_0 12 rfl rfl)
theorem dX1_errorPosition_15 : decode cX1_errorPosition 15 = .ok (.aload_n 0, 1) := dk_42 (dk_at dksX1_errorPosition_0 15 rfl rfl)
theorem dX1_errorPosition_16 : decode cX1_errorPosition 16 = .ok (.getfield 371, 3) := dk_180 1 115 (dk_at dksX1_errorPosition_0 16 rfl rfl)
theorem dX1_errorPosition_19 : decode cX1_errorPosition 19 = .ok (.getfield 379, 3) := dk_180 1 123 (dk_at dksX1_errorPosition_0 19 rfl rfl)
theorem dX1_errorPosition_22 : decode cX1_errorPosition 22 = .ok (.ireturn, 1) := dk_172 (dk_at dksX1_errorPosition_0 22 rfl rfl)
abbrev cX1_refusedItem : ByteArray := prog_1_method_52_code
def yX1_refusedItem : MethodName := ⟨RX1, "refusedItem", "()I"⟩
def dkwX1_refusedItem_0 : List UInt8 := [42, 180, 0, 63, 2, 159, 0, 7, 4, 167, 0, 4, 3, 184, 0, 206, 42, 180, 0, 63, 172]
abbrev dktX1_refusedItem_0 : List UInt8 := dkwX1_refusedItem_0 ++ []
theorem dksX1_refusedItem_0 : cX1_refusedItem.data.toList.drop 0 = dktX1_refusedItem_0 := by decide +kernel
theorem dX1_refusedItem_0 : decode cX1_refusedItem 0 = .ok (.aload_n 0, 1) := dk_42 (dk_at dksX1_refusedItem_0 0 rfl rfl)
theorem dX1_refusedItem_1 : decode cX1_refusedItem 1 = .ok (.getfield 63, 3) := dk_180 0 63 (dk_at dksX1_refusedItem_0 1 rfl rfl)
theorem dX1_refusedItem_4 : decode cX1_refusedItem 4 = .ok (.iconst (-1), 1) := dk_2 (dk_at dksX1_refusedItem_0 4 rfl rfl)
theorem dX1_refusedItem_5 : decode cX1_refusedItem 5 = .ok (.if_icmp .eq 7, 3) := dk_159 0 7 (dk_at dksX1_refusedItem_0 5 rfl rfl)
theorem dX1_refusedItem_8 : decode cX1_refusedItem 8 = .ok (.iconst 1, 1) := dk_4 (dk_at dksX1_refusedItem_0 8 rfl rfl)
theorem dX1_refusedItem_9 : decode cX1_refusedItem 9 = .ok (.goto 4, 3) := dk_167 0 4 (dk_at dksX1_refusedItem_0 9 rfl rfl)
theorem dX1_refusedItem_12 : decode cX1_refusedItem 12 = .ok (.iconst 0, 1) := dk_3 (dk_at dksX1_refusedItem_0 12 rfl rfl)
theorem dX1_refusedItem_13 : decode cX1_refusedItem 13 = .ok (.invokestatic 206, 3) := dk_184 0 206 (dk_at dksX1_refusedItem_0 13 rfl rfl)
theorem dX1_refusedItem_16 : decode cX1_refusedItem 16 = .ok (.aload_n 0, 1) := dk_42 (dk_at dksX1_refusedItem_0 16 rfl rfl)
theorem dX1_refusedItem_17 : decode cX1_refusedItem 17 = .ok (.getfield 63, 3) := dk_180 0 63 (dk_at dksX1_refusedItem_0 17 rfl rfl)
theorem dX1_refusedItem_20 : decode cX1_refusedItem 20 = .ok (.ireturn, 1) := dk_172 (dk_at dksX1_refusedItem_0 20 rfl rfl)
abbrev cX1_undo : ByteArray := prog_1_method_53_code
def yX1_undo : MethodName := ⟨RX1, "undo", "()I"⟩
def dkwX1_undo_1 : List UInt8 := [182, 1, 129, 192, 0, 36, 181, 0, 39, 42, 180, 0, 46, 182, 0, 67, 172]
abbrev dktX1_undo_1 : List UInt8 := dkwX1_undo_1 ++ []
def dkwX1_undo_0 : List UInt8 := [42, 180, 0, 46, 182, 1, 126, 154, 0, 7, 4, 167, 0, 4, 3, 184, 1, 50, 42, 42, 180, 0, 46]
abbrev dktX1_undo_0 : List UInt8 := dkwX1_undo_0 ++ dktX1_undo_1
theorem dksX1_undo_0 : cX1_undo.data.toList.drop 0 = dktX1_undo_0 := by decide +kernel
theorem dksX1_undo_1 : cX1_undo.data.toList.drop 23 = dktX1_undo_1 := dk_seg dksX1_undo_0 23 rfl rfl
theorem dX1_undo_0 : decode cX1_undo 0 = .ok (.aload_n 0, 1) := dk_42 (dk_at dksX1_undo_0 0 rfl rfl)
theorem dX1_undo_1 : decode cX1_undo 1 = .ok (.getfield 46, 3) := dk_180 0 46 (dk_at dksX1_undo_0 1 rfl rfl)
theorem dX1_undo_4 : decode cX1_undo 4 = .ok (.invokevirtual 382, 3) := dk_182 1 126 (dk_at dksX1_undo_0 4 rfl rfl)
theorem dX1_undo_7 : decode cX1_undo 7 = .ok (.ifCond .ne 7, 3) := dk_154 0 7 (dk_at dksX1_undo_0 7 rfl rfl)
theorem dX1_undo_10 : decode cX1_undo 10 = .ok (.iconst 1, 1) := dk_4 (dk_at dksX1_undo_0 10 rfl rfl)
theorem dX1_undo_11 : decode cX1_undo 11 = .ok (.goto 4, 3) := dk_167 0 4 (dk_at dksX1_undo_0 11 rfl rfl)
theorem dX1_undo_14 : decode cX1_undo 14 = .ok (.iconst 0, 1) := dk_3 (dk_at dksX1_undo_0 14 rfl rfl)
theorem dX1_undo_15 : decode cX1_undo 15 = .ok (.invokestatic 306, 3) := dk_184 1 50 (dk_at dksX1_undo_0 15 rfl rfl)
theorem dX1_undo_18 : decode cX1_undo 18 = .ok (.aload_n 0, 1) := dk_42 (dk_at dksX1_undo_0 18 rfl rfl)
theorem dX1_undo_19 : decode cX1_undo 19 = .ok (.aload_n 0, 1) := dk_42 (dk_at dksX1_undo_0 19 rfl rfl)
theorem dX1_undo_20 : decode cX1_undo 20 = .ok (.getfield 46, 3) := dk_180 0 46 (dk_at dksX1_undo_0 20 rfl rfl)
theorem dX1_undo_23 : decode cX1_undo 23 = .ok (.invokevirtual 385, 3) := dk_182 1 129 (dk_at dksX1_undo_1 0 rfl rfl)
theorem dX1_undo_26 : decode cX1_undo 26 = .ok (.checkcast 36, 3) := dk_192 0 36 (dk_at dksX1_undo_1 3 rfl rfl)
theorem dX1_undo_29 : decode cX1_undo 29 = .ok (.putfield 39, 3) := dk_181 0 39 (dk_at dksX1_undo_1 6 rfl rfl)
theorem dX1_undo_32 : decode cX1_undo 32 = .ok (.aload_n 0, 1) := dk_42 (dk_at dksX1_undo_1 9 rfl rfl)
theorem dX1_undo_33 : decode cX1_undo 33 = .ok (.getfield 46, 3) := dk_180 0 46 (dk_at dksX1_undo_1 10 rfl rfl)
theorem dX1_undo_36 : decode cX1_undo 36 = .ok (.invokevirtual 67, 3) := dk_182 0 67 (dk_at dksX1_undo_1 13 rfl rfl)
theorem dX1_undo_39 : decode cX1_undo 39 = .ok (.ireturn, 1) := dk_172 (dk_at dksX1_undo_1 16 rfl rfl)
abbrev cX1_restore : ByteArray := prog_1_method_55_code
def yX1_restore : MethodName := ⟨RX1, "restore", "()I"⟩
def dkwX1_restore_1 : List UInt8 := [180, 0, 46, 182, 0, 112, 42, 180, 0, 39, 180, 1, 59, 172]
abbrev dktX1_restore_1 : List UInt8 := dkwX1_restore_1 ++ []
def dkwX1_restore_0 : List UInt8 := [42, 180, 1, 132, 198, 0, 7, 4, 167, 0, 4, 3, 184, 1, 50, 42, 42, 180, 1, 132, 181, 0, 39, 42]
abbrev dktX1_restore_0 : List UInt8 := dkwX1_restore_0 ++ dktX1_restore_1
theorem dksX1_restore_0 : cX1_restore.data.toList.drop 0 = dktX1_restore_0 := by decide +kernel
theorem dksX1_restore_1 : cX1_restore.data.toList.drop 24 = dktX1_restore_1 := dk_seg dksX1_restore_0 24 rfl rfl
theorem dX1_restore_0 : decode cX1_restore 0 = .ok (.aload_n 0, 1) := dk_42 (dk_at dksX1_restore_0 0 rfl rfl)
theorem dX1_restore_1 : decode cX1_restore 1 = .ok (.getfield 388, 3) := dk_180 1 132 (dk_at dksX1_restore_0 1 rfl rfl)
theorem dX1_restore_4 : decode cX1_restore 4 = .ok (.ifnull 7, 3) := dk_198 0 7 (dk_at dksX1_restore_0 4 rfl rfl)
theorem dX1_restore_7 : decode cX1_restore 7 = .ok (.iconst 1, 1) := dk_4 (dk_at dksX1_restore_0 7 rfl rfl)
theorem dX1_restore_8 : decode cX1_restore 8 = .ok (.goto 4, 3) := dk_167 0 4 (dk_at dksX1_restore_0 8 rfl rfl)
theorem dX1_restore_11 : decode cX1_restore 11 = .ok (.iconst 0, 1) := dk_3 (dk_at dksX1_restore_0 11 rfl rfl)
theorem dX1_restore_12 : decode cX1_restore 12 = .ok (.invokestatic 306, 3) := dk_184 1 50 (dk_at dksX1_restore_0 12 rfl rfl)
theorem dX1_restore_15 : decode cX1_restore 15 = .ok (.aload_n 0, 1) := dk_42 (dk_at dksX1_restore_0 15 rfl rfl)
theorem dX1_restore_16 : decode cX1_restore 16 = .ok (.aload_n 0, 1) := dk_42 (dk_at dksX1_restore_0 16 rfl rfl)
theorem dX1_restore_17 : decode cX1_restore 17 = .ok (.getfield 388, 3) := dk_180 1 132 (dk_at dksX1_restore_0 17 rfl rfl)
theorem dX1_restore_20 : decode cX1_restore 20 = .ok (.putfield 39, 3) := dk_181 0 39 (dk_at dksX1_restore_0 20 rfl rfl)
theorem dX1_restore_23 : decode cX1_restore 23 = .ok (.aload_n 0, 1) := dk_42 (dk_at dksX1_restore_0 23 rfl rfl)
theorem dX1_restore_24 : decode cX1_restore 24 = .ok (.getfield 46, 3) := dk_180 0 46 (dk_at dksX1_restore_1 0 rfl rfl)
theorem dX1_restore_27 : decode cX1_restore 27 = .ok (.invokevirtual 112, 3) := dk_182 0 112 (dk_at dksX1_restore_1 3 rfl rfl)
theorem dX1_restore_30 : decode cX1_restore 30 = .ok (.aload_n 0, 1) := dk_42 (dk_at dksX1_restore_1 6 rfl rfl)
theorem dX1_restore_31 : decode cX1_restore 31 = .ok (.getfield 39, 3) := dk_180 0 39 (dk_at dksX1_restore_1 7 rfl rfl)
theorem dX1_restore_34 : decode cX1_restore 34 = .ok (.getfield 315, 3) := dk_180 1 59 (dk_at dksX1_restore_1 10 rfl rfl)
theorem dX1_restore_37 : decode cX1_restore 37 = .ok (.ireturn, 1) := dk_172 (dk_at dksX1_restore_1 13 rfl rfl)
theorem q69 : (Jvm.Cond.initialized "CurtainRiggers") ∈ lw_all := lw_g (lw_at lw_m1 1 rfl) rfl
theorem q119 : (Jvm.Cond.instantiable "CurtainRiggers" (8 : Nat)) ∈ lw_all := lw_g (lw_at lw_m1 51 rfl) rfl
theorem q121 : (Jvm.Cond.instanceMethod ({ cls := "CurtainRiggers", name := "<init>", desc := "()V" } : Jvm.MethodName)) ∈ lw_all := lw_g (lw_at lw_m1 53 rfl) rfl
theorem q122 : (Jvm.Cond.code ({ cls := "CurtainRiggers", name := "<init>", desc := "()V" } : Jvm.MethodName) prog_1_method_9_code (1 : Nat) (Option.none : Option Jvm.ClassFile.FieldType)) ∈ lw_all := lw_g (lw_at lw_m1 54 rfl) rfl
theorem q123 : (Jvm.Cond.methodLink "CurtainRiggers" (33 : Nat) ({ cls := "java/lang/Object", name := "<init>", desc := "()V" } : Jvm.MethodName)) ∈ lw_all := lw_g (lw_at lw_m1 55 rfl) rfl
theorem q126 : (Jvm.Cond.classLink "CurtainRiggers" (36 : Nat) "CurtainRiggers$Theatre") ∈ lw_all := lw_g (lw_at lw_m1 58 rfl) rfl
theorem q128 : (Jvm.Cond.methodLinkNest "CurtainRiggers" (38 : Nat) ({ cls := "CurtainRiggers$Theatre", name := "<init>", desc := "()V" } : Jvm.MethodName) "CurtainRiggers") ∈ lw_tbl := lw_at lw_m1 60 rfl
theorem q177 : (Jvm.Cond.fieldLinkNest "CurtainRiggers" (316 : Nat) "CurtainRiggers$Theatre" "bars" "LCurtainRiggers$Row;" "CurtainRiggers") ∈ lw_tbl := lw_at lw_m1 109 rfl
theorem q179 : (Jvm.Cond.fieldLinkNest "CurtainRiggers" (319 : Nat) "CurtainRiggers$Theatre" "curtains" "LCurtainRiggers$Row;" "CurtainRiggers") ∈ lw_tbl := lw_at lw_m1 111 rfl
theorem q181 : (Jvm.Cond.fieldLinkNest "CurtainRiggers" (328 : Nat) "CurtainRiggers$Theatre" "hands" "LCurtainRiggers$Row;" "CurtainRiggers") ∈ lw_tbl := lw_at lw_m1 113 rfl
theorem q183 : (Jvm.Cond.fieldLinkNest "CurtainRiggers" (105 : Nat) "CurtainRiggers$Theatre" "cues" "LCurtainRiggers$Row;" "CurtainRiggers") ∈ lw_tbl := lw_at lw_m1 115 rfl
theorem q186 : (Jvm.Cond.fieldLinkNest "CurtainRiggers" (346 : Nat) "CurtainRiggers$Theatre" "told" "I" "CurtainRiggers") ∈ lw_tbl := lw_at lw_m1 118 rfl
theorem q188 : (Jvm.Cond.fieldLinkNest "CurtainRiggers" (325 : Nat) "CurtainRiggers$Theatre" "store" "I" "CurtainRiggers") ∈ lw_tbl := lw_at lw_m1 120 rfl
theorem q190 : (Jvm.Cond.fieldLinkNest "CurtainRiggers" (340 : Nat) "CurtainRiggers$Theatre" "coins" "I" "CurtainRiggers") ∈ lw_tbl := lw_at lw_m1 122 rfl
theorem q192 : (Jvm.Cond.fieldLinkNest "CurtainRiggers" (315 : Nat) "CurtainRiggers$Theatre" "years" "I" "CurtainRiggers") ∈ lw_tbl := lw_at lw_m1 124 rfl
theorem q195 : (Jvm.Cond.fieldLinkNest "CurtainRiggers" (334 : Nat) "CurtainRiggers$Theatre" "played" "I" "CurtainRiggers") ∈ lw_tbl := lw_at lw_m1 127 rfl
theorem q197 : (Jvm.Cond.fieldLinkNest "CurtainRiggers" (337 : Nat) "CurtainRiggers$Theatre" "flights" "I" "CurtainRiggers") ∈ lw_tbl := lw_at lw_m1 129 rfl
theorem q224 : (Jvm.Cond.classLink "CurtainRiggers" (43 : Nat) "java/util/ArrayDeque") ∈ lw_all := lw_g (lw_at lw_m1 156 rfl) rfl
theorem q226 : (Jvm.Cond.methodLink "CurtainRiggers" (45 : Nat) ({ cls := "java/util/ArrayDeque", name := "<init>", desc := "()V" } : Jvm.MethodName)) ∈ lw_all := lw_g (lw_at lw_m1 158 rfl) rfl
theorem q244 : (Jvm.Cond.classLink "CurtainRiggers" (50 : Nat) "java/lang/StringBuilder") ∈ lw_all := lw_g (lw_at lw_m1 176 rfl) rfl
theorem q246 : (Jvm.Cond.methodLink "CurtainRiggers" (52 : Nat) ({ cls := "java/lang/StringBuilder", name := "<init>", desc := "()V" } : Jvm.MethodName)) ∈ lw_all := lw_g (lw_at lw_m1 178 rfl) rfl
theorem q276 : (Jvm.Cond.stringRef "CurtainRiggers" (57 : Nat) "") ∈ lw_tbl := lw_at lw_m1 208 rfl
theorem q277 : (Jvm.Cond.fieldLink "CurtainRiggers" (39 : Nat) "CurtainRiggers" "theatre" "LCurtainRiggers$Theatre;") ∈ lw_all := lw_g (lw_at lw_m1 209 rfl) rfl
theorem q278 : (Jvm.Cond.fieldLink "CurtainRiggers" (46 : Nat) "CurtainRiggers" "undoSteps" "Ljava/util/ArrayDeque;") ∈ lw_all := lw_g (lw_at lw_m1 210 rfl) rfl
theorem q279 : (Jvm.Cond.fieldLink "CurtainRiggers" (388 : Nat) "CurtainRiggers" "saved" "LCurtainRiggers$Theatre;") ∈ lw_all := lw_g (lw_at lw_m1 211 rfl) rfl
theorem q280 : (Jvm.Cond.fieldLink "CurtainRiggers" (53 : Nat) "CurtainRiggers" "input" "Ljava/lang/StringBuilder;") ∈ lw_all := lw_g (lw_at lw_m1 212 rfl) rfl
theorem q281 : (Jvm.Cond.fieldLink "CurtainRiggers" (59 : Nat) "CurtainRiggers" "line" "Ljava/lang/String;") ∈ lw_all := lw_g (lw_at lw_m1 213 rfl) rfl
theorem q282 : (Jvm.Cond.fieldLink "CurtainRiggers" (371 : Nat) "CurtainRiggers" "lastError" "LCurtainRiggers$SyntaxException;") ∈ lw_all := lw_g (lw_at lw_m1 214 rfl) rfl
theorem q283 : (Jvm.Cond.fieldLink "CurtainRiggers" (63 : Nat) "CurtainRiggers" "lastItem" "I") ∈ lw_all := lw_g (lw_at lw_m1 215 rfl) rfl
theorem q284 : (Jvm.Cond.fieldLink "CurtainRiggers" (94 : Nat) "CurtainRiggers" "lastRefusal" "LCurtainRiggers$Refused;") ∈ lw_all := lw_g (lw_at lw_m1 216 rfl) rfl
theorem q285 : (Jvm.Cond.lays "CurtainRiggers" "CurtainRiggers" "theatre" "LCurtainRiggers$Theatre;") ∈ lw_all := lw_g (lw_at lw_m1 217 rfl) rfl
theorem q286 : (Jvm.Cond.soleField "CurtainRiggers" "theatre") ∈ lw_all := lw_g (lw_at lw_m1 218 rfl) rfl
theorem q287 : (Jvm.Cond.laysFinal "CurtainRiggers" "CurtainRiggers" "undoSteps" "Ljava/util/ArrayDeque;") ∈ lw_all := lw_g (lw_at lw_m1 219 rfl) rfl
theorem q288 : (Jvm.Cond.soleField "CurtainRiggers" "undoSteps") ∈ lw_all := lw_g (lw_at lw_m1 220 rfl) rfl
theorem q289 : (Jvm.Cond.lays "CurtainRiggers" "CurtainRiggers" "saved" "LCurtainRiggers$Theatre;") ∈ lw_all := lw_g (lw_at lw_m1 221 rfl) rfl
theorem q290 : (Jvm.Cond.soleField "CurtainRiggers" "saved") ∈ lw_all := lw_g (lw_at lw_m1 222 rfl) rfl
theorem q291 : (Jvm.Cond.lays "CurtainRiggers" "CurtainRiggers" "input" "Ljava/lang/StringBuilder;") ∈ lw_all := lw_g (lw_at lw_m1 223 rfl) rfl
theorem q292 : (Jvm.Cond.soleField "CurtainRiggers" "input") ∈ lw_all := lw_g (lw_at lw_m1 224 rfl) rfl
theorem q293 : (Jvm.Cond.lays "CurtainRiggers" "CurtainRiggers" "line" "Ljava/lang/String;") ∈ lw_all := lw_g (lw_at lw_m1 225 rfl) rfl
theorem q294 : (Jvm.Cond.soleField "CurtainRiggers" "line") ∈ lw_all := lw_g (lw_at lw_m1 226 rfl) rfl
theorem q295 : (Jvm.Cond.lays "CurtainRiggers" "CurtainRiggers" "lastError" "LCurtainRiggers$SyntaxException;") ∈ lw_all := lw_g (lw_at lw_m1 227 rfl) rfl
theorem q296 : (Jvm.Cond.soleField "CurtainRiggers" "lastError") ∈ lw_all := lw_g (lw_at lw_m1 228 rfl) rfl
theorem q297 : (Jvm.Cond.lays "CurtainRiggers" "CurtainRiggers" "lastItem" "I") ∈ lw_all := lw_g (lw_at lw_m1 229 rfl) rfl
theorem q298 : (Jvm.Cond.soleField "CurtainRiggers" "lastItem") ∈ lw_all := lw_g (lw_at lw_m1 230 rfl) rfl
theorem q299 : (Jvm.Cond.lays "CurtainRiggers" "CurtainRiggers" "lastRefusal" "LCurtainRiggers$Refused;") ∈ lw_all := lw_g (lw_at lw_m1 231 rfl) rfl
theorem q300 : (Jvm.Cond.soleField "CurtainRiggers" "lastRefusal") ∈ lw_all := lw_g (lw_at lw_m1 232 rfl) rfl
theorem q301 : (Jvm.Cond.superclass "CurtainRiggers" "java/lang/Object") ∈ lw_all := lw_g (lw_at lw_m1 233 rfl) rfl
theorem q303 : (Jvm.Cond.instanceMethod ({ cls := "CurtainRiggers", name := "clear", desc := "()I" } : Jvm.MethodName)) ∈ lw_all := lw_g (lw_at lw_m1 235 rfl) rfl
theorem q304 : (Jvm.Cond.selects "CurtainRiggers" ({ cls := "CurtainRiggers", name := "clear", desc := "()I" } : Jvm.MethodName) ({ cls := "CurtainRiggers", name := "clear", desc := "()I" } : Jvm.MethodName)) ∈ lw_all := lw_g (lw_at lw_m1 236 rfl) rfl
theorem q305 : (Jvm.Cond.code ({ cls := "CurtainRiggers", name := "clear", desc := "()I" } : Jvm.MethodName) prog_1_method_12_code (2 : Nat) (Option.some Jvm.ClassFile.FieldType.int)) ∈ lw_all := lw_g (lw_at lw_m1 237 rfl) rfl
theorem q306 : (Jvm.Cond.methodLink "CurtainRiggers" (109 : Nat) ({ cls := "CurtainRiggers$Row", name := "size", desc := "()I" } : Jvm.MethodName)) ∈ lw_all := lw_g (lw_at lw_m1 238 rfl) rfl
theorem q314 : (Jvm.Cond.methodLink "CurtainRiggers" (112 : Nat) ({ cls := "java/util/ArrayDeque", name := "clear", desc := "()V" } : Jvm.MethodName)) ∈ lw_all := lw_g (lw_at lw_m2 6 rfl) rfl
theorem q322 : (Jvm.Cond.instanceMethod ({ cls := "CurtainRiggers", name := "playable", desc := "()I" } : Jvm.MethodName)) ∈ lw_all := lw_g (lw_at lw_m2 14 rfl) rfl
theorem q323 : (Jvm.Cond.selects "CurtainRiggers" ({ cls := "CurtainRiggers", name := "playable", desc := "()I" } : Jvm.MethodName) ({ cls := "CurtainRiggers", name := "playable", desc := "()I" } : Jvm.MethodName)) ∈ lw_all := lw_g (lw_at lw_m2 15 rfl) rfl
theorem q324 : (Jvm.Cond.code ({ cls := "CurtainRiggers", name := "playable", desc := "()I" } : Jvm.MethodName) prog_1_method_39_code (1 : Nat) (Option.some Jvm.ClassFile.FieldType.int)) ∈ lw_all := lw_g (lw_at lw_m2 16 rfl) rfl
theorem q325 : (Jvm.Cond.methodLink "CurtainRiggers" (284 : Nat) ({ cls := "CurtainRiggers$Theatre", name := "playable", desc := "()I" } : Jvm.MethodName)) ∈ lw_all := lw_g (lw_at lw_m2 17 rfl) rfl
theorem q532 : (Jvm.Cond.fieldLinkNest "CurtainRiggers" (168 : Nat) "CurtainRiggers$Bar" "number" "I" "CurtainRiggers") ∈ lw_tbl := lw_at lw_m2 224 rfl
theorem q536 : (Jvm.Cond.fieldLinkNest "CurtainRiggers" (126 : Nat) "CurtainRiggers$Bar" "height" "I" "CurtainRiggers") ∈ lw_tbl := lw_at lw_m2 228 rfl
theorem q540 : (Jvm.Cond.fieldLinkNest "CurtainRiggers" (131 : Nat) "CurtainRiggers$Bar" "load" "I" "CurtainRiggers") ∈ lw_tbl := lw_at lw_m2 232 rfl
theorem q542 : (Jvm.Cond.fieldLinkNest "CurtainRiggers" (149 : Nat) "CurtainRiggers$Bar" "curtains" "I" "CurtainRiggers") ∈ lw_tbl := lw_at lw_m2 234 rfl
theorem q547 : (Jvm.Cond.fieldLinkNest "CurtainRiggers" (134 : Nat) "CurtainRiggers$Bar" "weights" "I" "CurtainRiggers") ∈ lw_tbl := lw_at lw_m2 239 rfl
theorem q551 : (Jvm.Cond.fieldLinkNest "CurtainRiggers" (140 : Nat) "CurtainRiggers$Bar" "years" "I" "CurtainRiggers") ∈ lw_tbl := lw_at lw_m3 3 rfl
theorem q554 : (Jvm.Cond.fieldLinkNest "CurtainRiggers" (152 : Nat) "CurtainRiggers$Bar" "flown" "I" "CurtainRiggers") ∈ lw_tbl := lw_at lw_m3 6 rfl
theorem q598 : (Jvm.Cond.fieldLinkNest "CurtainRiggers" (190 : Nat) "CurtainRiggers$Curtain" "number" "I" "CurtainRiggers") ∈ lw_tbl := lw_at lw_m3 50 rfl
theorem q607 : (Jvm.Cond.fieldLinkNest "CurtainRiggers" (164 : Nat) "CurtainRiggers$Curtain" "bar" "I" "CurtainRiggers") ∈ lw_tbl := lw_at lw_m3 59 rfl
theorem q676 : (Jvm.Cond.selects "CurtainRiggers" ({ cls := "java/lang/Object", name := "getClass", desc := "()Ljava/lang/Class;" } : Jvm.MethodName) ({ cls := "java/lang/Object", name := "getClass", desc := "()Ljava/lang/Class;" } : Jvm.MethodName)) ∈ lw_all := lw_g (lw_at lw_m3 128 rfl) rfl
theorem q1165 : (Jvm.Cond.fieldLinkNest "CurtainRiggers" (312 : Nat) "CurtainRiggers$Refused" "reason" "I" "CurtainRiggers") ∈ lw_tbl := lw_at lw_m5 137 rfl
theorem q1167 : (Jvm.Cond.fieldLinkNest "CurtainRiggers" (309 : Nat) "CurtainRiggers$Refused" "detail" "I" "CurtainRiggers") ∈ lw_tbl := lw_at lw_m5 139 rfl
theorem q1268 : (Jvm.Cond.instanceMethod ({ cls := "CurtainRiggers", name := "cueLine", desc := "()I" } : Jvm.MethodName)) ∈ lw_all := lw_g (lw_at lw_m6 0 rfl) rfl
theorem q1269 : (Jvm.Cond.selects "CurtainRiggers" ({ cls := "CurtainRiggers", name := "cueLine", desc := "()I" } : Jvm.MethodName) ({ cls := "CurtainRiggers", name := "cueLine", desc := "()I" } : Jvm.MethodName)) ∈ lw_all := lw_g (lw_at lw_m6 1 rfl) rfl
theorem q1270 : (Jvm.Cond.code ({ cls := "CurtainRiggers", name := "cueLine", desc := "()I" } : Jvm.MethodName) prog_1_method_41_code (1 : Nat) (Option.some Jvm.ClassFile.FieldType.int)) ∈ lw_all := lw_g (lw_at lw_m6 2 rfl) rfl
theorem q1271 : (Jvm.Cond.methodLink "CurtainRiggers" (295 : Nat) ({ cls := "CurtainRiggers$Theatre", name := "toldCues", desc := "()Ljava/lang/String;" } : Jvm.MethodName)) ∈ lw_all := lw_g (lw_at lw_m6 3 rfl) rfl
theorem q1306 : (Jvm.Cond.methodLink "CurtainRiggers" (290 : Nat) ({ cls := "java/lang/String", name := "length", desc := "()I" } : Jvm.MethodName)) ∈ lw_all := lw_g (lw_at lw_m6 38 rfl) rfl
theorem q1308 : (Jvm.Cond.instanceMethod ({ cls := "CurtainRiggers", name := "storeAgain", desc := "()I" } : Jvm.MethodName)) ∈ lw_all := lw_g (lw_at lw_m6 40 rfl) rfl
theorem q1309 : (Jvm.Cond.selects "CurtainRiggers" ({ cls := "CurtainRiggers", name := "storeAgain", desc := "()I" } : Jvm.MethodName) ({ cls := "CurtainRiggers", name := "storeAgain", desc := "()I" } : Jvm.MethodName)) ∈ lw_all := lw_g (lw_at lw_m6 41 rfl) rfl
theorem q1310 : (Jvm.Cond.code ({ cls := "CurtainRiggers", name := "storeAgain", desc := "()I" } : Jvm.MethodName) prog_1_method_45_code (1 : Nat) (Option.some Jvm.ClassFile.FieldType.int)) ∈ lw_all := lw_g (lw_at lw_m6 42 rfl) rfl
theorem q1311 : (Jvm.Cond.methodLink "CurtainRiggers" (322 : Nat) ({ cls := "CurtainRiggers$Theatre", name := "sum", desc := "(I)I" } : Jvm.MethodName)) ∈ lw_all := lw_g (lw_at lw_m6 43 rfl) rfl
theorem q1326 : (Jvm.Cond.instanceMethod ({ cls := "CurtainRiggers", name := "snapshot", desc := "()I" } : Jvm.MethodName)) ∈ lw_all := lw_g (lw_at lw_m6 58 rfl) rfl
theorem q1327 : (Jvm.Cond.selects "CurtainRiggers" ({ cls := "CurtainRiggers", name := "snapshot", desc := "()I" } : Jvm.MethodName) ({ cls := "CurtainRiggers", name := "snapshot", desc := "()I" } : Jvm.MethodName)) ∈ lw_all := lw_g (lw_at lw_m6 59 rfl) rfl
theorem q1328 : (Jvm.Cond.code ({ cls := "CurtainRiggers", name := "snapshot", desc := "()I" } : Jvm.MethodName) prog_1_method_54_code (1 : Nat) (Option.some Jvm.ClassFile.FieldType.int)) ∈ lw_all := lw_g (lw_at lw_m6 60 rfl) rfl
theorem q1334 : (Jvm.Cond.instanceMethod ({ cls := "CurtainRiggers", name := "told", desc := "(I)I" } : Jvm.MethodName)) ∈ lw_all := lw_g (lw_at lw_m6 66 rfl) rfl
theorem q1335 : (Jvm.Cond.selects "CurtainRiggers" ({ cls := "CurtainRiggers", name := "told", desc := "(I)I" } : Jvm.MethodName) ({ cls := "CurtainRiggers", name := "told", desc := "(I)I" } : Jvm.MethodName)) ∈ lw_all := lw_g (lw_at lw_m6 67 rfl) rfl
theorem q1336 : (Jvm.Cond.code ({ cls := "CurtainRiggers", name := "told", desc := "(I)I" } : Jvm.MethodName) prog_1_method_13_code (2 : Nat) (Option.some Jvm.ClassFile.FieldType.int)) ∈ lw_all := lw_g (lw_at lw_m6 68 rfl) rfl
theorem q1337 : (Jvm.Cond.stringRef "CurtainRiggers" (115 : Nat) "told") ∈ lw_tbl := lw_at lw_m6 69 rfl
theorem q1338 : (Jvm.Cond.methodLink "CurtainRiggers" (117 : Nat) ({ cls := "CurtainRiggers", name := "change", desc := "(Ljava/lang/String;II)I" } : Jvm.MethodName)) ∈ lw_all := lw_g (lw_at lw_m6 70 rfl) rfl
theorem q1339 : (Jvm.Cond.privateMethod ({ cls := "CurtainRiggers", name := "change", desc := "(Ljava/lang/String;II)I" } : Jvm.MethodName)) ∈ lw_tbl := lw_at lw_m6 71 rfl
theorem q1340 : (Jvm.Cond.instanceMethod ({ cls := "CurtainRiggers", name := "change", desc := "(Ljava/lang/String;II)I" } : Jvm.MethodName)) ∈ lw_all := lw_g (lw_at lw_m6 72 rfl) rfl
theorem q1341 : (Jvm.Cond.codeWith ({ cls := "CurtainRiggers", name := "change", desc := "(Ljava/lang/String;II)I" } : Jvm.MethodName) prog_1_method_11_code (7 : Nat) (Option.some Jvm.ClassFile.FieldType.int) [((9 : Nat), (26 : Nat), (29 : Nat), (92 : Nat))]) ∈ lw_all := lw_g (lw_at lw_m6 73 rfl) rfl
theorem q1342 : (Jvm.Cond.classLink "CurtainRiggers" (92 : Nat) "CurtainRiggers$Refused") ∈ lw_all := lw_g (lw_at lw_m6 74 rfl) rfl
theorem q1343 : (Jvm.Cond.methodLink "CurtainRiggers" (79 : Nat) ({ cls := "CurtainRiggers$Theatre", name := "copy", desc := "()LCurtainRiggers$Theatre;" } : Jvm.MethodName)) ∈ lw_all := lw_g (lw_at lw_m6 75 rfl) rfl
theorem q1344 : (Jvm.Cond.classLink "CurtainRiggers" (83 : Nat) "CurtainRiggers$Change") ∈ lw_all := lw_g (lw_at lw_m6 76 rfl) rfl
theorem q1346 : (Jvm.Cond.methodLink "CurtainRiggers" (85 : Nat) ({ cls := "CurtainRiggers$Change", name := "<init>", desc := "(Ljava/lang/String;II)V" } : Jvm.MethodName)) ∈ lw_all := lw_g (lw_at lw_m6 78 rfl) rfl
theorem q1360 : (Jvm.Cond.methodLink "CurtainRiggers" (88 : Nat) ({ cls := "CurtainRiggers$Change", name := "make", desc := "(LCurtainRiggers$Theatre;)I" } : Jvm.MethodName)) ∈ lw_all := lw_g (lw_at lw_m6 92 rfl) rfl
theorem q1460 : (Jvm.Cond.static ({ cls := "CurtainRiggers", name := "inRange", desc := "(JJJ)Z" } : Jvm.MethodName)) ∈ lw_all := lw_g (lw_at lw_m6 192 rfl) rfl
theorem q1461 : (Jvm.Cond.code ({ cls := "CurtainRiggers", name := "inRange", desc := "(JJJ)Z" } : Jvm.MethodName) prog_1_method_1_code (6 : Nat) (Option.some Jvm.ClassFile.FieldType.boolean)) ∈ lw_all := lw_g (lw_at lw_m6 193 rfl) rfl
theorem q1463 : (Jvm.Cond.static ({ cls := "CurtainRiggers", name := "checkIndex", desc := "(Z)V" } : Jvm.MethodName)) ∈ lw_all := lw_g (lw_at lw_m6 195 rfl) rfl
theorem q1464 : (Jvm.Cond.code ({ cls := "CurtainRiggers", name := "checkIndex", desc := "(Z)V" } : Jvm.MethodName) prog_1_method_3_code (1 : Nat) (Option.none : Option Jvm.ClassFile.FieldType)) ∈ lw_all := lw_g (lw_at lw_m6 196 rfl) rfl
theorem q1465 : (Jvm.Cond.classLink "CurtainRiggers" (7 : Nat) "java/lang/IndexOutOfBoundsException") ∈ lw_all := lw_g (lw_at lw_m6 197 rfl) rfl
theorem q1466 : (Jvm.Cond.methodLink "CurtainRiggers" (9 : Nat) ({ cls := "java/lang/IndexOutOfBoundsException", name := "<init>", desc := "()V" } : Jvm.MethodName)) ∈ lw_all := lw_g (lw_at lw_m6 198 rfl) rfl
theorem q1497 : (Jvm.Cond.static ({ cls := "CurtainRiggers", name := "checkArgument", desc := "(Z)V" } : Jvm.MethodName)) ∈ lw_all := lw_g (lw_at lw_m6 229 rfl) rfl
theorem q1498 : (Jvm.Cond.code ({ cls := "CurtainRiggers", name := "checkArgument", desc := "(Z)V" } : Jvm.MethodName) prog_1_method_2_code (1 : Nat) (Option.none : Option Jvm.ClassFile.FieldType)) ∈ lw_all := lw_g (lw_at lw_m6 230 rfl) rfl
theorem q1499 : (Jvm.Cond.classLink "CurtainRiggers" (1 : Nat) "java/lang/IllegalArgumentException") ∈ lw_all := lw_g (lw_at lw_m6 231 rfl) rfl
theorem q1500 : (Jvm.Cond.methodLink "CurtainRiggers" (3 : Nat) ({ cls := "java/lang/IllegalArgumentException", name := "<init>", desc := "()V" } : Jvm.MethodName)) ∈ lw_all := lw_g (lw_at lw_m6 232 rfl) rfl
theorem q1509 : (Jvm.Cond.static ({ cls := "CurtainRiggers", name := "checkHeight", desc := "(I)V" } : Jvm.MethodName)) ∈ lw_all := lw_g (lw_at lw_m7 1 rfl) rfl
theorem q1510 : (Jvm.Cond.code ({ cls := "CurtainRiggers", name := "checkHeight", desc := "(I)V" } : Jvm.MethodName) prog_1_method_8_code (1 : Nat) (Option.none : Option Jvm.ClassFile.FieldType)) ∈ lw_all := lw_g (lw_at lw_m7 2 rfl) rfl
theorem q1511 : (Jvm.Cond.constantLong "CurtainRiggers" (31 : Nat) (20 : Int64)) ∈ lw_all := lw_g (lw_at lw_m7 3 rfl) rfl
theorem q1512 : (Jvm.Cond.methodLink "CurtainRiggers" (23 : Nat) ({ cls := "CurtainRiggers", name := "inRange", desc := "(JJJ)Z" } : Jvm.MethodName)) ∈ lw_all := lw_g (lw_at lw_m7 4 rfl) rfl
theorem q1513 : (Jvm.Cond.methodLink "CurtainRiggers" (27 : Nat) ({ cls := "CurtainRiggers", name := "checkArgument", desc := "(Z)V" } : Jvm.MethodName)) ∈ lw_all := lw_g (lw_at lw_m7 5 rfl) rfl
theorem q1543 : (Jvm.Cond.static ({ cls := "CurtainRiggers", name := "checkState", desc := "(Z)V" } : Jvm.MethodName)) ∈ lw_all := lw_g (lw_at lw_m7 35 rfl) rfl
theorem q1544 : (Jvm.Cond.code ({ cls := "CurtainRiggers", name := "checkState", desc := "(Z)V" } : Jvm.MethodName) prog_1_method_4_code (1 : Nat) (Option.none : Option Jvm.ClassFile.FieldType)) ∈ lw_all := lw_g (lw_at lw_m7 36 rfl) rfl
theorem q1545 : (Jvm.Cond.classLink "CurtainRiggers" (10 : Nat) "java/lang/IllegalStateException") ∈ lw_all := lw_g (lw_at lw_m7 37 rfl) rfl
theorem q1554 : (Jvm.Cond.methodLink "CurtainRiggers" (12 : Nat) ({ cls := "java/lang/IllegalStateException", name := "<init>", desc := "()V" } : Jvm.MethodName)) ∈ lw_all := lw_g (lw_at lw_m7 46 rfl) rfl
theorem q1577 : (Jvm.Cond.static ({ cls := "CurtainRiggers", name := "checkFloor", desc := "(I)V" } : Jvm.MethodName)) ∈ lw_all := lw_g (lw_at lw_m7 69 rfl) rfl
theorem q1578 : (Jvm.Cond.code ({ cls := "CurtainRiggers", name := "checkFloor", desc := "(I)V" } : Jvm.MethodName) prog_1_method_7_code (1 : Nat) (Option.none : Option Jvm.ClassFile.FieldType)) ∈ lw_all := lw_g (lw_at lw_m7 70 rfl) rfl
theorem q1579 : (Jvm.Cond.constantLong "CurtainRiggers" (21 : Nat) (2 : Int64)) ∈ lw_all := lw_g (lw_at lw_m7 71 rfl) rfl
theorem q1591 : (Jvm.Cond.classLink "CurtainRiggers" (98 : Nat) "java/lang/UnsupportedOperationException") ∈ lw_all := lw_g (lw_at lw_m7 83 rfl) rfl
theorem q1600 : (Jvm.Cond.methodLink "CurtainRiggers" (100 : Nat) ({ cls := "java/lang/UnsupportedOperationException", name := "<init>", desc := "()V" } : Jvm.MethodName)) ∈ lw_all := lw_g (lw_at lw_m7 92 rfl) rfl
theorem q1606 : (Jvm.Cond.methodLink "CurtainRiggers" (101 : Nat) ({ cls := "CurtainRiggers", name := "become", desc := "(LCurtainRiggers$Theatre;)V" } : Jvm.MethodName)) ∈ lw_all := lw_g (lw_at lw_m7 98 rfl) rfl
theorem q1607 : (Jvm.Cond.privateMethod ({ cls := "CurtainRiggers", name := "become", desc := "(LCurtainRiggers$Theatre;)V" } : Jvm.MethodName)) ∈ lw_tbl := lw_at lw_m7 99 rfl
theorem q1608 : (Jvm.Cond.instanceMethod ({ cls := "CurtainRiggers", name := "become", desc := "(LCurtainRiggers$Theatre;)V" } : Jvm.MethodName)) ∈ lw_all := lw_g (lw_at lw_m7 100 rfl) rfl
theorem q1609 : (Jvm.Cond.code ({ cls := "CurtainRiggers", name := "become", desc := "(LCurtainRiggers$Theatre;)V" } : Jvm.MethodName) prog_1_method_10_code (3 : Nat) (Option.none : Option Jvm.ClassFile.FieldType)) ∈ lw_all := lw_g (lw_at lw_m7 101 rfl) rfl
theorem q1610 : (Jvm.Cond.methodLink "CurtainRiggers" (67 : Nat) ({ cls := "java/util/ArrayDeque", name := "size", desc := "()I" } : Jvm.MethodName)) ∈ lw_all := lw_g (lw_at lw_m7 102 rfl) rfl
theorem q1611 : (Jvm.Cond.methodLink "CurtainRiggers" (71 : Nat) ({ cls := "java/util/ArrayDeque", name := "removeFirst", desc := "()Ljava/lang/Object;" } : Jvm.MethodName)) ∈ lw_all := lw_g (lw_at lw_m7 103 rfl) rfl
theorem q1625 : (Jvm.Cond.methodLink "CurtainRiggers" (75 : Nat) ({ cls := "java/util/ArrayDeque", name := "addLast", desc := "(Ljava/lang/Object;)V" } : Jvm.MethodName)) ∈ lw_all := lw_g (lw_at lw_m7 117 rfl) rfl
theorem q1652 : (Jvm.Cond.instanceMethod ({ cls := "CurtainRiggers", name := "bar", desc := "()I" } : Jvm.MethodName)) ∈ lw_all := lw_g (lw_at lw_m7 144 rfl) rfl
theorem q1653 : (Jvm.Cond.selects "CurtainRiggers" ({ cls := "CurtainRiggers", name := "bar", desc := "()I" } : Jvm.MethodName) ({ cls := "CurtainRiggers", name := "bar", desc := "()I" } : Jvm.MethodName)) ∈ lw_all := lw_g (lw_at lw_m7 145 rfl) rfl
theorem q1654 : (Jvm.Cond.code ({ cls := "CurtainRiggers", name := "bar", desc := "()I" } : Jvm.MethodName) prog_1_method_14_code (1 : Nat) (Option.some Jvm.ClassFile.FieldType.int)) ∈ lw_all := lw_g (lw_at lw_m7 146 rfl) rfl
theorem q1655 : (Jvm.Cond.stringRef "CurtainRiggers" (121 : Nat) "bar") ∈ lw_tbl := lw_at lw_m7 147 rfl
theorem q1676 : (Jvm.Cond.instanceMethod ({ cls := "CurtainRiggers", name := "barOf", desc := "(II)I" } : Jvm.MethodName)) ∈ lw_all := lw_g (lw_at lw_m7 168 rfl) rfl
theorem q1677 : (Jvm.Cond.selects "CurtainRiggers" ({ cls := "CurtainRiggers", name := "barOf", desc := "(II)I" } : Jvm.MethodName) ({ cls := "CurtainRiggers", name := "barOf", desc := "(II)I" } : Jvm.MethodName)) ∈ lw_all := lw_g (lw_at lw_m7 169 rfl) rfl
theorem q1678 : (Jvm.Cond.code ({ cls := "CurtainRiggers", name := "barOf", desc := "(II)I" } : Jvm.MethodName) prog_1_method_15_code (4 : Nat) (Option.some Jvm.ClassFile.FieldType.int)) ∈ lw_all := lw_g (lw_at lw_m7 170 rfl) rfl
theorem q1679 : (Jvm.Cond.methodLink "CurtainRiggers" (123 : Nat) ({ cls := "CurtainRiggers$Theatre", name := "bar", desc := "(I)LCurtainRiggers$Bar;" } : Jvm.MethodName)) ∈ lw_all := lw_g (lw_at lw_m7 171 rfl) rfl
theorem q1680 : (Jvm.Cond.methodLink "CurtainRiggers" (137 : Nat) ({ cls := "CurtainRiggers$Bar", name := "outBy", desc := "()I" } : Jvm.MethodName)) ∈ lw_all := lw_g (lw_at lw_m7 172 rfl) rfl
theorem q1681 : (Jvm.Cond.methodLink "CurtainRiggers" (143 : Nat) ({ cls := "CurtainRiggers$Bar", name := "bears", desc := "()I" } : Jvm.MethodName)) ∈ lw_all := lw_g (lw_at lw_m7 173 rfl) rfl
theorem q1682 : (Jvm.Cond.methodLink "CurtainRiggers" (146 : Nat) ({ cls := "CurtainRiggers$Bar", name := "floor", desc := "()I" } : Jvm.MethodName)) ∈ lw_all := lw_g (lw_at lw_m7 174 rfl) rfl
theorem q1688 : (Jvm.Cond.instanceMethod ({ cls := "CurtainRiggers", name := "rope", desc := "(I)I" } : Jvm.MethodName)) ∈ lw_all := lw_g (lw_at lw_m7 180 rfl) rfl
theorem q1689 : (Jvm.Cond.selects "CurtainRiggers" ({ cls := "CurtainRiggers", name := "rope", desc := "(I)I" } : Jvm.MethodName) ({ cls := "CurtainRiggers", name := "rope", desc := "(I)I" } : Jvm.MethodName)) ∈ lw_all := lw_g (lw_at lw_m7 181 rfl) rfl
theorem q1690 : (Jvm.Cond.code ({ cls := "CurtainRiggers", name := "rope", desc := "(I)I" } : Jvm.MethodName) prog_1_method_16_code (2 : Nat) (Option.some Jvm.ClassFile.FieldType.int)) ∈ lw_all := lw_g (lw_at lw_m7 182 rfl) rfl
theorem q1691 : (Jvm.Cond.stringRef "CurtainRiggers" (155 : Nat) "rope") ∈ lw_tbl := lw_at lw_m7 183 rfl
theorem q1696 : (Jvm.Cond.instanceMethod ({ cls := "CurtainRiggers", name := "year", desc := "(I)I" } : Jvm.MethodName)) ∈ lw_all := lw_g (lw_at lw_m7 188 rfl) rfl
theorem q1697 : (Jvm.Cond.selects "CurtainRiggers" ({ cls := "CurtainRiggers", name := "year", desc := "(I)I" } : Jvm.MethodName) ({ cls := "CurtainRiggers", name := "year", desc := "(I)I" } : Jvm.MethodName)) ∈ lw_all := lw_g (lw_at lw_m7 189 rfl) rfl
theorem q1698 : (Jvm.Cond.code ({ cls := "CurtainRiggers", name := "year", desc := "(I)I" } : Jvm.MethodName) prog_1_method_17_code (2 : Nat) (Option.some Jvm.ClassFile.FieldType.int)) ∈ lw_all := lw_g (lw_at lw_m7 190 rfl) rfl
theorem q1699 : (Jvm.Cond.stringRef "CurtainRiggers" (157 : Nat) "year") ∈ lw_tbl := lw_at lw_m7 191 rfl
theorem q1704 : (Jvm.Cond.instanceMethod ({ cls := "CurtainRiggers", name := "curtain", desc := "(I)I" } : Jvm.MethodName)) ∈ lw_all := lw_g (lw_at lw_m7 196 rfl) rfl
theorem q1705 : (Jvm.Cond.selects "CurtainRiggers" ({ cls := "CurtainRiggers", name := "curtain", desc := "(I)I" } : Jvm.MethodName) ({ cls := "CurtainRiggers", name := "curtain", desc := "(I)I" } : Jvm.MethodName)) ∈ lw_all := lw_g (lw_at lw_m7 197 rfl) rfl
theorem q1706 : (Jvm.Cond.code ({ cls := "CurtainRiggers", name := "curtain", desc := "(I)I" } : Jvm.MethodName) prog_1_method_18_code (2 : Nat) (Option.some Jvm.ClassFile.FieldType.int)) ∈ lw_all := lw_g (lw_at lw_m7 198 rfl) rfl
theorem q1707 : (Jvm.Cond.stringRef "CurtainRiggers" (159 : Nat) "curtain") ∈ lw_tbl := lw_at lw_m7 199 rfl
theorem q1712 : (Jvm.Cond.instanceMethod ({ cls := "CurtainRiggers", name := "barOfCurtain", desc := "(I)I" } : Jvm.MethodName)) ∈ lw_all := lw_g (lw_at lw_m7 204 rfl) rfl
theorem q1713 : (Jvm.Cond.selects "CurtainRiggers" ({ cls := "CurtainRiggers", name := "barOfCurtain", desc := "(I)I" } : Jvm.MethodName) ({ cls := "CurtainRiggers", name := "barOfCurtain", desc := "(I)I" } : Jvm.MethodName)) ∈ lw_all := lw_g (lw_at lw_m7 205 rfl) rfl
theorem q1714 : (Jvm.Cond.code ({ cls := "CurtainRiggers", name := "barOfCurtain", desc := "(I)I" } : Jvm.MethodName) prog_1_method_19_code (2 : Nat) (Option.some Jvm.ClassFile.FieldType.int)) ∈ lw_all := lw_g (lw_at lw_m7 206 rfl) rfl
theorem q1715 : (Jvm.Cond.methodLink "CurtainRiggers" (161 : Nat) ({ cls := "CurtainRiggers$Theatre", name := "curtain", desc := "(I)LCurtainRiggers$Curtain;" } : Jvm.MethodName)) ∈ lw_all := lw_g (lw_at lw_m7 207 rfl) rfl
theorem q1721 : (Jvm.Cond.instanceMethod ({ cls := "CurtainRiggers", name := "curtainOn", desc := "(II)I" } : Jvm.MethodName)) ∈ lw_all := lw_g (lw_at lw_m7 213 rfl) rfl
theorem q1722 : (Jvm.Cond.selects "CurtainRiggers" ({ cls := "CurtainRiggers", name := "curtainOn", desc := "(II)I" } : Jvm.MethodName) ({ cls := "CurtainRiggers", name := "curtainOn", desc := "(II)I" } : Jvm.MethodName)) ∈ lw_all := lw_g (lw_at lw_m7 214 rfl) rfl
theorem q1723 : (Jvm.Cond.code ({ cls := "CurtainRiggers", name := "curtainOn", desc := "(II)I" } : Jvm.MethodName) prog_1_method_20_code (7 : Nat) (Option.some Jvm.ClassFile.FieldType.int)) ∈ lw_all := lw_g (lw_at lw_m7 215 rfl) rfl
theorem q1724 : (Jvm.Cond.methodLink "CurtainRiggers" (171 : Nat) ({ cls := "CurtainRiggers$Theatre", name := "curtainsOn", desc := "(I)Ljava/lang/Iterable;" } : Jvm.MethodName)) ∈ lw_all := lw_g (lw_at lw_m7 216 rfl) rfl
theorem q1729 : (Jvm.Cond.interfaceEntry "CurtainRiggers" (175 : Nat)) ∈ lw_tbl := lw_at lw_m7 221 rfl
theorem q1730 : (Jvm.Cond.methodLink "CurtainRiggers" (175 : Nat) ({ cls := "java/lang/Iterable", name := "iterator", desc := "()Ljava/util/Iterator;" } : Jvm.MethodName)) ∈ lw_all := lw_g (lw_at lw_m7 222 rfl) rfl
theorem q1731 : (Jvm.Cond.interfaceEntry "CurtainRiggers" (181 : Nat)) ∈ lw_tbl := lw_at lw_m7 223 rfl
theorem q1732 : (Jvm.Cond.methodLink "CurtainRiggers" (181 : Nat) ({ cls := "java/util/Iterator", name := "hasNext", desc := "()Z" } : Jvm.MethodName)) ∈ lw_all := lw_g (lw_at lw_m7 224 rfl) rfl
theorem q1733 : (Jvm.Cond.interfaceEntry "CurtainRiggers" (187 : Nat)) ∈ lw_tbl := lw_at lw_m7 225 rfl
theorem q1734 : (Jvm.Cond.methodLink "CurtainRiggers" (187 : Nat) ({ cls := "java/util/Iterator", name := "next", desc := "()Ljava/lang/Object;" } : Jvm.MethodName)) ∈ lw_all := lw_g (lw_at lw_m7 226 rfl) rfl
theorem q1735 : (Jvm.Cond.classLink "CurtainRiggers" (165 : Nat) "CurtainRiggers$Curtain") ∈ lw_all := lw_g (lw_at lw_m7 227 rfl) rfl
theorem q1736 : (Jvm.Cond.classLink "CurtainRiggers" (13 : Nat) "java/util/NoSuchElementException") ∈ lw_all := lw_g (lw_at lw_m7 228 rfl) rfl
theorem q1737 : (Jvm.Cond.methodLink "CurtainRiggers" (15 : Nat) ({ cls := "java/util/NoSuchElementException", name := "<init>", desc := "()V" } : Jvm.MethodName)) ∈ lw_all := lw_g (lw_at lw_m7 229 rfl) rfl
theorem q1742 : (Jvm.Cond.instanceMethod ({ cls := "CurtainRiggers", name := "hang", desc := "(II)I" } : Jvm.MethodName)) ∈ lw_all := lw_g (lw_at lw_m7 234 rfl) rfl
theorem q1743 : (Jvm.Cond.selects "CurtainRiggers" ({ cls := "CurtainRiggers", name := "hang", desc := "(II)I" } : Jvm.MethodName) ({ cls := "CurtainRiggers", name := "hang", desc := "(II)I" } : Jvm.MethodName)) ∈ lw_all := lw_g (lw_at lw_m7 235 rfl) rfl
theorem q1744 : (Jvm.Cond.code ({ cls := "CurtainRiggers", name := "hang", desc := "(II)I" } : Jvm.MethodName) prog_1_method_21_code (3 : Nat) (Option.some Jvm.ClassFile.FieldType.int)) ∈ lw_all := lw_g (lw_at lw_m7 236 rfl) rfl
theorem q1745 : (Jvm.Cond.stringRef "CurtainRiggers" (191 : Nat) "hang ") ∈ lw_tbl := lw_at lw_m7 237 rfl
theorem q1750 : (Jvm.Cond.instanceMethod ({ cls := "CurtainRiggers", name := "drop", desc := "(I)I" } : Jvm.MethodName)) ∈ lw_all := lw_g (lw_at lw_m8 2 rfl) rfl
theorem q1751 : (Jvm.Cond.selects "CurtainRiggers" ({ cls := "CurtainRiggers", name := "drop", desc := "(I)I" } : Jvm.MethodName) ({ cls := "CurtainRiggers", name := "drop", desc := "(I)I" } : Jvm.MethodName)) ∈ lw_all := lw_g (lw_at lw_m8 3 rfl) rfl
theorem q1752 : (Jvm.Cond.code ({ cls := "CurtainRiggers", name := "drop", desc := "(I)I" } : Jvm.MethodName) prog_1_method_22_code (2 : Nat) (Option.some Jvm.ClassFile.FieldType.int)) ∈ lw_all := lw_g (lw_at lw_m8 4 rfl) rfl
theorem q1753 : (Jvm.Cond.stringRef "CurtainRiggers" (193 : Nat) "drop ") ∈ lw_tbl := lw_at lw_m8 5 rfl
theorem q1758 : (Jvm.Cond.instanceMethod ({ cls := "CurtainRiggers", name := "weights", desc := "(II)I" } : Jvm.MethodName)) ∈ lw_all := lw_g (lw_at lw_m8 10 rfl) rfl
theorem q1759 : (Jvm.Cond.selects "CurtainRiggers" ({ cls := "CurtainRiggers", name := "weights", desc := "(II)I" } : Jvm.MethodName) ({ cls := "CurtainRiggers", name := "weights", desc := "(II)I" } : Jvm.MethodName)) ∈ lw_all := lw_g (lw_at lw_m8 11 rfl) rfl
theorem q1760 : (Jvm.Cond.code ({ cls := "CurtainRiggers", name := "weights", desc := "(II)I" } : Jvm.MethodName) prog_1_method_23_code (3 : Nat) (Option.some Jvm.ClassFile.FieldType.int)) ∈ lw_all := lw_g (lw_at lw_m8 12 rfl) rfl
theorem q1761 : (Jvm.Cond.stringRef "CurtainRiggers" (195 : Nat) "add ") ∈ lw_tbl := lw_at lw_m8 13 rfl
theorem q1766 : (Jvm.Cond.instanceMethod ({ cls := "CurtainRiggers", name := "bestWeights", desc := "(I)I" } : Jvm.MethodName)) ∈ lw_all := lw_g (lw_at lw_m8 18 rfl) rfl
theorem q1767 : (Jvm.Cond.selects "CurtainRiggers" ({ cls := "CurtainRiggers", name := "bestWeights", desc := "(I)I" } : Jvm.MethodName) ({ cls := "CurtainRiggers", name := "bestWeights", desc := "(I)I" } : Jvm.MethodName)) ∈ lw_all := lw_g (lw_at lw_m8 19 rfl) rfl
theorem q1768 : (Jvm.Cond.code ({ cls := "CurtainRiggers", name := "bestWeights", desc := "(I)I" } : Jvm.MethodName) prog_1_method_24_code (2 : Nat) (Option.some Jvm.ClassFile.FieldType.int)) ∈ lw_all := lw_g (lw_at lw_m8 20 rfl) rfl
theorem q1769 : (Jvm.Cond.methodLink "CurtainRiggers" (197 : Nat) ({ cls := "CurtainRiggers$Bar", name := "bestWeights", desc := "()I" } : Jvm.MethodName)) ∈ lw_all := lw_g (lw_at lw_m8 21 rfl) rfl
theorem q1777 : (Jvm.Cond.instanceMethod ({ cls := "CurtainRiggers", name := "bestBar", desc := "(I)I" } : Jvm.MethodName)) ∈ lw_all := lw_g (lw_at lw_m8 29 rfl) rfl
theorem q1778 : (Jvm.Cond.selects "CurtainRiggers" ({ cls := "CurtainRiggers", name := "bestBar", desc := "(I)I" } : Jvm.MethodName) ({ cls := "CurtainRiggers", name := "bestBar", desc := "(I)I" } : Jvm.MethodName)) ∈ lw_all := lw_g (lw_at lw_m8 30 rfl) rfl
theorem q1779 : (Jvm.Cond.code ({ cls := "CurtainRiggers", name := "bestBar", desc := "(I)I" } : Jvm.MethodName) prog_1_method_26_code (2 : Nat) (Option.some Jvm.ClassFile.FieldType.int)) ∈ lw_all := lw_g (lw_at lw_m8 31 rfl) rfl
theorem q1780 : (Jvm.Cond.methodLink "CurtainRiggers" (209 : Nat) ({ cls := "CurtainRiggers$Theatre", name := "bestBar", desc := "(LCurtainRiggers$Curtain;)LCurtainRiggers$Bar;" } : Jvm.MethodName)) ∈ lw_all := lw_g (lw_at lw_m8 32 rfl) rfl
theorem q1797 : (Jvm.Cond.methodLink "CurtainRiggers" (213 : Nat) ({ cls := "CurtainRiggers", name := "found", desc := "(LCurtainRiggers$Numbered;)I" } : Jvm.MethodName)) ∈ lw_all := lw_g (lw_at lw_m8 49 rfl) rfl
theorem q1798 : (Jvm.Cond.static ({ cls := "CurtainRiggers", name := "found", desc := "(LCurtainRiggers$Numbered;)I" } : Jvm.MethodName)) ∈ lw_all := lw_g (lw_at lw_m8 50 rfl) rfl
theorem q1799 : (Jvm.Cond.code ({ cls := "CurtainRiggers", name := "found", desc := "(LCurtainRiggers$Numbered;)I" } : Jvm.MethodName) prog_1_method_25_code (2 : Nat) (Option.some Jvm.ClassFile.FieldType.int)) ∈ lw_all := lw_g (lw_at lw_m8 51 rfl) rfl
theorem q1800 : (Jvm.Cond.methodLink "CurtainRiggers" (200 : Nat) ({ cls := "CurtainRiggers$Numbered", name := "numberOf", desc := "(LCurtainRiggers$Numbered;)I" } : Jvm.MethodName)) ∈ lw_all := lw_g (lw_at lw_m8 52 rfl) rfl
theorem q1803 : (Jvm.Cond.methodLink "CurtainRiggers" (206 : Nat) ({ cls := "CurtainRiggers", name := "checkElement", desc := "(Z)V" } : Jvm.MethodName)) ∈ lw_all := lw_g (lw_at lw_m8 55 rfl) rfl
theorem q1804 : (Jvm.Cond.static ({ cls := "CurtainRiggers", name := "checkElement", desc := "(Z)V" } : Jvm.MethodName)) ∈ lw_all := lw_g (lw_at lw_m8 56 rfl) rfl
theorem q1805 : (Jvm.Cond.code ({ cls := "CurtainRiggers", name := "checkElement", desc := "(Z)V" } : Jvm.MethodName) prog_1_method_5_code (1 : Nat) (Option.none : Option Jvm.ClassFile.FieldType)) ∈ lw_all := lw_g (lw_at lw_m8 57 rfl) rfl
theorem q1810 : (Jvm.Cond.instanceMethod ({ cls := "CurtainRiggers", name := "bestAgain", desc := "(I)I" } : Jvm.MethodName)) ∈ lw_all := lw_g (lw_at lw_m8 62 rfl) rfl
theorem q1811 : (Jvm.Cond.selects "CurtainRiggers" ({ cls := "CurtainRiggers", name := "bestAgain", desc := "(I)I" } : Jvm.MethodName) ({ cls := "CurtainRiggers", name := "bestAgain", desc := "(I)I" } : Jvm.MethodName)) ∈ lw_all := lw_g (lw_at lw_m8 63 rfl) rfl
theorem q1812 : (Jvm.Cond.code ({ cls := "CurtainRiggers", name := "bestAgain", desc := "(I)I" } : Jvm.MethodName) prog_1_method_27_code (2 : Nat) (Option.some Jvm.ClassFile.FieldType.int)) ∈ lw_all := lw_g (lw_at lw_m8 64 rfl) rfl
theorem q1813 : (Jvm.Cond.methodLink "CurtainRiggers" (216 : Nat) ({ cls := "CurtainRiggers$Theatre", name := "bestAgain", desc := "(LCurtainRiggers$Curtain;)LCurtainRiggers$Bar;" } : Jvm.MethodName)) ∈ lw_all := lw_g (lw_at lw_m8 65 rfl) rfl
theorem q1826 : (Jvm.Cond.instanceMethod ({ cls := "CurtainRiggers", name := "hand", desc := "(II)I" } : Jvm.MethodName)) ∈ lw_all := lw_g (lw_at lw_m8 78 rfl) rfl
theorem q1827 : (Jvm.Cond.selects "CurtainRiggers" ({ cls := "CurtainRiggers", name := "hand", desc := "(II)I" } : Jvm.MethodName) ({ cls := "CurtainRiggers", name := "hand", desc := "(II)I" } : Jvm.MethodName)) ∈ lw_all := lw_g (lw_at lw_m8 79 rfl) rfl
theorem q1828 : (Jvm.Cond.code ({ cls := "CurtainRiggers", name := "hand", desc := "(II)I" } : Jvm.MethodName) prog_1_method_28_code (3 : Nat) (Option.some Jvm.ClassFile.FieldType.int)) ∈ lw_all := lw_g (lw_at lw_m8 80 rfl) rfl
theorem q1829 : (Jvm.Cond.stringRef "CurtainRiggers" (219 : Nat) "hand") ∈ lw_tbl := lw_at lw_m8 81 rfl
theorem q1834 : (Jvm.Cond.instanceMethod ({ cls := "CurtainRiggers", name := "move", desc := "(II)I" } : Jvm.MethodName)) ∈ lw_all := lw_g (lw_at lw_m8 86 rfl) rfl
theorem q1835 : (Jvm.Cond.selects "CurtainRiggers" ({ cls := "CurtainRiggers", name := "move", desc := "(II)I" } : Jvm.MethodName) ({ cls := "CurtainRiggers", name := "move", desc := "(II)I" } : Jvm.MethodName)) ∈ lw_all := lw_g (lw_at lw_m8 87 rfl) rfl
theorem q1836 : (Jvm.Cond.code ({ cls := "CurtainRiggers", name := "move", desc := "(II)I" } : Jvm.MethodName) prog_1_method_29_code (3 : Nat) (Option.some Jvm.ClassFile.FieldType.int)) ∈ lw_all := lw_g (lw_at lw_m8 88 rfl) rfl
theorem q1837 : (Jvm.Cond.stringRef "CurtainRiggers" (221 : Nat) "move") ∈ lw_tbl := lw_at lw_m8 89 rfl
theorem q1842 : (Jvm.Cond.instanceMethod ({ cls := "CurtainRiggers", name := "strength", desc := "(I)I" } : Jvm.MethodName)) ∈ lw_all := lw_g (lw_at lw_m8 94 rfl) rfl
theorem q1843 : (Jvm.Cond.selects "CurtainRiggers" ({ cls := "CurtainRiggers", name := "strength", desc := "(I)I" } : Jvm.MethodName) ({ cls := "CurtainRiggers", name := "strength", desc := "(I)I" } : Jvm.MethodName)) ∈ lw_all := lw_g (lw_at lw_m8 95 rfl) rfl
theorem q1844 : (Jvm.Cond.code ({ cls := "CurtainRiggers", name := "strength", desc := "(I)I" } : Jvm.MethodName) prog_1_method_30_code (2 : Nat) (Option.some Jvm.ClassFile.FieldType.int)) ∈ lw_all := lw_g (lw_at lw_m8 96 rfl) rfl
theorem q1845 : (Jvm.Cond.methodLink "CurtainRiggers" (223 : Nat) ({ cls := "CurtainRiggers", name := "checkFloor", desc := "(I)V" } : Jvm.MethodName)) ∈ lw_all := lw_g (lw_at lw_m8 97 rfl) rfl
theorem q1846 : (Jvm.Cond.methodLink "CurtainRiggers" (227 : Nat) ({ cls := "CurtainRiggers$Theatre", name := "strength", desc := "(I)I" } : Jvm.MethodName)) ∈ lw_all := lw_g (lw_at lw_m8 98 rfl) rfl
theorem q1851 : (Jvm.Cond.instanceMethod ({ cls := "CurtainRiggers", name := "door", desc := "(IZ)I" } : Jvm.MethodName)) ∈ lw_all := lw_g (lw_at lw_m8 103 rfl) rfl
theorem q1852 : (Jvm.Cond.selects "CurtainRiggers" ({ cls := "CurtainRiggers", name := "door", desc := "(IZ)I" } : Jvm.MethodName) ({ cls := "CurtainRiggers", name := "door", desc := "(IZ)I" } : Jvm.MethodName)) ∈ lw_all := lw_g (lw_at lw_m8 104 rfl) rfl
theorem q1853 : (Jvm.Cond.code ({ cls := "CurtainRiggers", name := "door", desc := "(IZ)I" } : Jvm.MethodName) prog_1_method_31_code (3 : Nat) (Option.some Jvm.ClassFile.FieldType.int)) ∈ lw_all := lw_g (lw_at lw_m8 105 rfl) rfl
theorem q1854 : (Jvm.Cond.stringRef "CurtainRiggers" (231 : Nat) "open ") ∈ lw_tbl := lw_at lw_m8 106 rfl
theorem q1855 : (Jvm.Cond.stringRef "CurtainRiggers" (233 : Nat) "close ") ∈ lw_tbl := lw_at lw_m8 107 rfl
theorem q1860 : (Jvm.Cond.instanceMethod ({ cls := "CurtainRiggers", name := "noise", desc := "(IIZ)I" } : Jvm.MethodName)) ∈ lw_all := lw_g (lw_at lw_m8 112 rfl) rfl
theorem q1861 : (Jvm.Cond.selects "CurtainRiggers" ({ cls := "CurtainRiggers", name := "noise", desc := "(IIZ)I" } : Jvm.MethodName) ({ cls := "CurtainRiggers", name := "noise", desc := "(IIZ)I" } : Jvm.MethodName)) ∈ lw_all := lw_g (lw_at lw_m8 113 rfl) rfl
theorem q1862 : (Jvm.Cond.code ({ cls := "CurtainRiggers", name := "noise", desc := "(IIZ)I" } : Jvm.MethodName) prog_1_method_32_code (5 : Nat) (Option.some Jvm.ClassFile.FieldType.int)) ∈ lw_all := lw_g (lw_at lw_m8 114 rfl) rfl
theorem q1863 : (Jvm.Cond.methodLink "CurtainRiggers" (235 : Nat) ({ cls := "CurtainRiggers", name := "checkHeight", desc := "(I)V" } : Jvm.MethodName)) ∈ lw_all := lw_g (lw_at lw_m8 115 rfl) rfl
theorem q1864 : (Jvm.Cond.methodLink "CurtainRiggers" (238 : Nat) ({ cls := "CurtainRiggers$Theatre", name := "noiseAgain", desc := "(LCurtainRiggers$Bar;I)I" } : Jvm.MethodName)) ∈ lw_all := lw_g (lw_at lw_m8 116 rfl) rfl
theorem q1868 : (Jvm.Cond.methodLink "CurtainRiggers" (242 : Nat) ({ cls := "CurtainRiggers$Theatre", name := "noise", desc := "(LCurtainRiggers$Bar;I)I" } : Jvm.MethodName)) ∈ lw_all := lw_g (lw_at lw_m8 120 rfl) rfl
theorem q1873 : (Jvm.Cond.instanceMethod ({ cls := "CurtainRiggers", name := "fly", desc := "(II)I" } : Jvm.MethodName)) ∈ lw_all := lw_g (lw_at lw_m8 125 rfl) rfl
theorem q1874 : (Jvm.Cond.selects "CurtainRiggers" ({ cls := "CurtainRiggers", name := "fly", desc := "(II)I" } : Jvm.MethodName) ({ cls := "CurtainRiggers", name := "fly", desc := "(II)I" } : Jvm.MethodName)) ∈ lw_all := lw_g (lw_at lw_m8 126 rfl) rfl
theorem q1875 : (Jvm.Cond.code ({ cls := "CurtainRiggers", name := "fly", desc := "(II)I" } : Jvm.MethodName) prog_1_method_33_code (3 : Nat) (Option.some Jvm.ClassFile.FieldType.int)) ∈ lw_all := lw_g (lw_at lw_m8 127 rfl) rfl
theorem q1876 : (Jvm.Cond.stringRef "CurtainRiggers" (245 : Nat) "fly ") ∈ lw_tbl := lw_at lw_m8 128 rfl
theorem q1881 : (Jvm.Cond.instanceMethod ({ cls := "CurtainRiggers", name := "wouldRefuse", desc := "(I)I" } : Jvm.MethodName)) ∈ lw_all := lw_g (lw_at lw_m8 133 rfl) rfl
theorem q1882 : (Jvm.Cond.selects "CurtainRiggers" ({ cls := "CurtainRiggers", name := "wouldRefuse", desc := "(I)I" } : Jvm.MethodName) ({ cls := "CurtainRiggers", name := "wouldRefuse", desc := "(I)I" } : Jvm.MethodName)) ∈ lw_all := lw_g (lw_at lw_m8 134 rfl) rfl
theorem q1883 : (Jvm.Cond.code ({ cls := "CurtainRiggers", name := "wouldRefuse", desc := "(I)I" } : Jvm.MethodName) prog_1_method_34_code (2 : Nat) (Option.some Jvm.ClassFile.FieldType.int)) ∈ lw_all := lw_g (lw_at lw_m8 135 rfl) rfl
theorem q1884 : (Jvm.Cond.methodLink "CurtainRiggers" (247 : Nat) ({ cls := "CurtainRiggers$Theatre", name := "wouldRefuse", desc := "(LCurtainRiggers$Bar;)I" } : Jvm.MethodName)) ∈ lw_all := lw_g (lw_at lw_m8 136 rfl) rfl
theorem q1892 : (Jvm.Cond.instanceMethod ({ cls := "CurtainRiggers", name := "cue", desc := "(IIII)I" } : Jvm.MethodName)) ∈ lw_all := lw_g (lw_at lw_m8 144 rfl) rfl
theorem q1893 : (Jvm.Cond.selects "CurtainRiggers" ({ cls := "CurtainRiggers", name := "cue", desc := "(IIII)I" } : Jvm.MethodName) ({ cls := "CurtainRiggers", name := "cue", desc := "(IIII)I" } : Jvm.MethodName)) ∈ lw_all := lw_g (lw_at lw_m8 145 rfl) rfl
theorem q1894 : (Jvm.Cond.code ({ cls := "CurtainRiggers", name := "cue", desc := "(IIII)I" } : Jvm.MethodName) prog_1_method_35_code (7 : Nat) (Option.some Jvm.ClassFile.FieldType.int)) ∈ lw_all := lw_g (lw_at lw_m8 146 rfl) rfl
theorem q1895 : (Jvm.Cond.classLink "CurtainRiggers" (251 : Nat) "CurtainRiggers$Cue") ∈ lw_all := lw_g (lw_at lw_m8 147 rfl) rfl
theorem q1897 : (Jvm.Cond.methodLink "CurtainRiggers" (253 : Nat) ({ cls := "CurtainRiggers$Cue", name := "<init>", desc := "(IIII)V" } : Jvm.MethodName)) ∈ lw_all := lw_g (lw_at lw_m8 149 rfl) rfl
theorem q1903 : (Jvm.Cond.fieldLinkNest "CurtainRiggers" (270 : Nat) "CurtainRiggers$Cue" "light" "I" "CurtainRiggers") ∈ lw_tbl := lw_at lw_m8 155 rfl
theorem q1906 : (Jvm.Cond.fieldLinkNest "CurtainRiggers" (273 : Nat) "CurtainRiggers$Cue" "bar" "I" "CurtainRiggers") ∈ lw_tbl := lw_at lw_m8 158 rfl
theorem q1909 : (Jvm.Cond.fieldLinkNest "CurtainRiggers" (274 : Nat) "CurtainRiggers$Cue" "height" "I" "CurtainRiggers") ∈ lw_tbl := lw_at lw_m8 161 rfl
theorem q1912 : (Jvm.Cond.fieldLinkNest "CurtainRiggers" (275 : Nat) "CurtainRiggers$Cue" "hush" "I" "CurtainRiggers") ∈ lw_tbl := lw_at lw_m8 164 rfl
theorem q1921 : (Jvm.Cond.methodLink "CurtainRiggers" (256 : Nat) ({ cls := "CurtainRiggers$Theatre", name := "addCue", desc := "(LCurtainRiggers$Cue;)I" } : Jvm.MethodName)) ∈ lw_all := lw_g (lw_at lw_m8 173 rfl) rfl
theorem q1934 : (Jvm.Cond.instanceMethod ({ cls := "CurtainRiggers", name := "cueOf", desc := "(II)I" } : Jvm.MethodName)) ∈ lw_all := lw_g (lw_at lw_m8 186 rfl) rfl
theorem q1935 : (Jvm.Cond.selects "CurtainRiggers" ({ cls := "CurtainRiggers", name := "cueOf", desc := "(II)I" } : Jvm.MethodName) ({ cls := "CurtainRiggers", name := "cueOf", desc := "(II)I" } : Jvm.MethodName)) ∈ lw_all := lw_g (lw_at lw_m8 187 rfl) rfl
theorem q1936 : (Jvm.Cond.code ({ cls := "CurtainRiggers", name := "cueOf", desc := "(II)I" } : Jvm.MethodName) prog_1_method_36_code (4 : Nat) (Option.some Jvm.ClassFile.FieldType.int)) ∈ lw_all := lw_g (lw_at lw_m8 188 rfl) rfl
theorem q1937 : (Jvm.Cond.methodLink "CurtainRiggers" (260 : Nat) ({ cls := "CurtainRiggers$Theatre", name := "cuesAbove", desc := "(I)Ljava/util/ArrayList;" } : Jvm.MethodName)) ∈ lw_all := lw_g (lw_at lw_m8 189 rfl) rfl
theorem q1938 : (Jvm.Cond.methodLink "CurtainRiggers" (264 : Nat) ({ cls := "java/util/ArrayList", name := "get", desc := "(I)Ljava/lang/Object;" } : Jvm.MethodName)) ∈ lw_all := lw_g (lw_at lw_m8 190 rfl) rfl
theorem q1943 : (Jvm.Cond.instanceMethod ({ cls := "CurtainRiggers", name := "nextLight", desc := "()I" } : Jvm.MethodName)) ∈ lw_all := lw_g (lw_at lw_m8 195 rfl) rfl
theorem q1944 : (Jvm.Cond.selects "CurtainRiggers" ({ cls := "CurtainRiggers", name := "nextLight", desc := "()I" } : Jvm.MethodName) ({ cls := "CurtainRiggers", name := "nextLight", desc := "()I" } : Jvm.MethodName)) ∈ lw_all := lw_g (lw_at lw_m8 196 rfl) rfl
theorem q1945 : (Jvm.Cond.code ({ cls := "CurtainRiggers", name := "nextLight", desc := "()I" } : Jvm.MethodName) prog_1_method_37_code (1 : Nat) (Option.some Jvm.ClassFile.FieldType.int)) ∈ lw_all := lw_g (lw_at lw_m8 197 rfl) rfl
theorem q1946 : (Jvm.Cond.methodLink "CurtainRiggers" (278 : Nat) ({ cls := "CurtainRiggers$Theatre", name := "nextCue", desc := "()LCurtainRiggers$Cue;" } : Jvm.MethodName)) ∈ lw_all := lw_g (lw_at lw_m8 198 rfl) rfl
theorem q1951 : (Jvm.Cond.instanceMethod ({ cls := "CurtainRiggers", name := "go", desc := "()I" } : Jvm.MethodName)) ∈ lw_all := lw_g (lw_at lw_m8 203 rfl) rfl
theorem q1952 : (Jvm.Cond.selects "CurtainRiggers" ({ cls := "CurtainRiggers", name := "go", desc := "()I" } : Jvm.MethodName) ({ cls := "CurtainRiggers", name := "go", desc := "()I" } : Jvm.MethodName)) ∈ lw_all := lw_g (lw_at lw_m8 204 rfl) rfl
theorem q1953 : (Jvm.Cond.code ({ cls := "CurtainRiggers", name := "go", desc := "()I" } : Jvm.MethodName) prog_1_method_38_code (1 : Nat) (Option.some Jvm.ClassFile.FieldType.int)) ∈ lw_all := lw_g (lw_at lw_m8 205 rfl) rfl
theorem q1954 : (Jvm.Cond.stringRef "CurtainRiggers" (282 : Nat) "go") ∈ lw_tbl := lw_at lw_m8 206 rfl
theorem q1959 : (Jvm.Cond.instanceMethod ({ cls := "CurtainRiggers", name := "line", desc := "(I)I" } : Jvm.MethodName)) ∈ lw_all := lw_g (lw_at lw_m8 211 rfl) rfl
theorem q1960 : (Jvm.Cond.selects "CurtainRiggers" ({ cls := "CurtainRiggers", name := "line", desc := "(I)I" } : Jvm.MethodName) ({ cls := "CurtainRiggers", name := "line", desc := "(I)I" } : Jvm.MethodName)) ∈ lw_all := lw_g (lw_at lw_m8 212 rfl) rfl
theorem q1961 : (Jvm.Cond.code ({ cls := "CurtainRiggers", name := "line", desc := "(I)I" } : Jvm.MethodName) prog_1_method_40_code (2 : Nat) (Option.some Jvm.ClassFile.FieldType.int)) ∈ lw_all := lw_g (lw_at lw_m8 213 rfl) rfl
theorem q1962 : (Jvm.Cond.methodLink "CurtainRiggers" (287 : Nat) ({ cls := "CurtainRiggers$Theatre", name := "told", desc := "(LCurtainRiggers$Bar;)Ljava/lang/String;" } : Jvm.MethodName)) ∈ lw_all := lw_g (lw_at lw_m8 214 rfl) rfl
theorem q1978 : (Jvm.Cond.instanceMethod ({ cls := "CurtainRiggers", name := "character", desc := "(I)C" } : Jvm.MethodName)) ∈ lw_all := lw_g (lw_at lw_m8 230 rfl) rfl
theorem q1979 : (Jvm.Cond.selects "CurtainRiggers" ({ cls := "CurtainRiggers", name := "character", desc := "(I)C" } : Jvm.MethodName) ({ cls := "CurtainRiggers", name := "character", desc := "(I)C" } : Jvm.MethodName)) ∈ lw_all := lw_g (lw_at lw_m8 231 rfl) rfl
theorem q1980 : (Jvm.Cond.code ({ cls := "CurtainRiggers", name := "character", desc := "(I)C" } : Jvm.MethodName) prog_1_method_42_code (2 : Nat) (Option.some Jvm.ClassFile.FieldType.char)) ∈ lw_all := lw_g (lw_at lw_m8 232 rfl) rfl
theorem q1981 : (Jvm.Cond.methodLink "CurtainRiggers" (299 : Nat) ({ cls := "CurtainRiggers", name := "checkIndex", desc := "(Z)V" } : Jvm.MethodName)) ∈ lw_all := lw_g (lw_at lw_m8 233 rfl) rfl
theorem q1982 : (Jvm.Cond.methodLink "CurtainRiggers" (302 : Nat) ({ cls := "java/lang/String", name := "charAt", desc := "(I)C" } : Jvm.MethodName)) ∈ lw_all := lw_g (lw_at lw_m8 234 rfl) rfl
theorem q1997 : (Jvm.Cond.instanceMethod ({ cls := "CurtainRiggers", name := "refusal", desc := "(Z)I" } : Jvm.MethodName)) ∈ lw_all := lw_g (lw_at lw_m9 9 rfl) rfl
theorem q1998 : (Jvm.Cond.selects "CurtainRiggers" ({ cls := "CurtainRiggers", name := "refusal", desc := "(Z)I" } : Jvm.MethodName) ({ cls := "CurtainRiggers", name := "refusal", desc := "(Z)I" } : Jvm.MethodName)) ∈ lw_all := lw_g (lw_at lw_m9 10 rfl) rfl
theorem q1999 : (Jvm.Cond.code ({ cls := "CurtainRiggers", name := "refusal", desc := "(Z)I" } : Jvm.MethodName) prog_1_method_43_code (2 : Nat) (Option.some Jvm.ClassFile.FieldType.int)) ∈ lw_all := lw_g (lw_at lw_m9 11 rfl) rfl
theorem q2000 : (Jvm.Cond.methodLink "CurtainRiggers" (306 : Nat) ({ cls := "CurtainRiggers", name := "checkState", desc := "(Z)V" } : Jvm.MethodName)) ∈ lw_all := lw_g (lw_at lw_m9 12 rfl) rfl
theorem q2005 : (Jvm.Cond.instanceMethod ({ cls := "CurtainRiggers", name := "account", desc := "(I)I" } : Jvm.MethodName)) ∈ lw_all := lw_g (lw_at lw_m9 17 rfl) rfl
theorem q2006 : (Jvm.Cond.selects "CurtainRiggers" ({ cls := "CurtainRiggers", name := "account", desc := "(I)I" } : Jvm.MethodName) ({ cls := "CurtainRiggers", name := "account", desc := "(I)I" } : Jvm.MethodName)) ∈ lw_all := lw_g (lw_at lw_m9 18 rfl) rfl
theorem q2007 : (Jvm.Cond.code ({ cls := "CurtainRiggers", name := "account", desc := "(I)I" } : Jvm.MethodName) prog_1_method_44_code (5 : Nat) (Option.some Jvm.ClassFile.FieldType.int)) ∈ lw_all := lw_g (lw_at lw_m9 19 rfl) rfl
theorem q2008 : (Jvm.Cond.methodLink "CurtainRiggers" (321 : Nat) ({ cls := "CurtainRiggers$Row", name := "iterator", desc := "()Ljava/util/Iterator;" } : Jvm.MethodName)) ∈ lw_all := lw_g (lw_at lw_m9 20 rfl) rfl
theorem q2009 : (Jvm.Cond.classLink "CurtainRiggers" (127 : Nat) "CurtainRiggers$Bar") ∈ lw_all := lw_g (lw_at lw_m9 21 rfl) rfl
theorem q2010 : (Jvm.Cond.methodLink "CurtainRiggers" (331 : Nat) ({ cls := "CurtainRiggers$Theatre", name := "openDoors", desc := "()I" } : Jvm.MethodName)) ∈ lw_all := lw_g (lw_at lw_m9 22 rfl) rfl
theorem q2011 : (Jvm.Cond.methodLink "CurtainRiggers" (343 : Nat) ({ cls := "CurtainRiggers$Theatre", name := "outOfBalance", desc := "()I" } : Jvm.MethodName)) ∈ lw_all := lw_g (lw_at lw_m9 23 rfl) rfl
theorem q2015 : (Jvm.Cond.methodLink "CurtainRiggers" (348 : Nat) ({ cls := "java/lang/StringBuilder", name := "length", desc := "()I" } : Jvm.MethodName)) ∈ lw_all := lw_g (lw_at lw_m9 27 rfl) rfl
theorem q2034 : (Jvm.Cond.instanceMethod ({ cls := "CurtainRiggers", name := "meanHeight", desc := "()D" } : Jvm.MethodName)) ∈ lw_all := lw_g (lw_at lw_m9 46 rfl) rfl
theorem q2035 : (Jvm.Cond.selects "CurtainRiggers" ({ cls := "CurtainRiggers", name := "meanHeight", desc := "()D" } : Jvm.MethodName) ({ cls := "CurtainRiggers", name := "meanHeight", desc := "()D" } : Jvm.MethodName)) ∈ lw_all := lw_g (lw_at lw_m9 47 rfl) rfl
theorem q2036 : (Jvm.Cond.code ({ cls := "CurtainRiggers", name := "meanHeight", desc := "()D" } : Jvm.MethodName) prog_1_method_46_code (2 : Nat) (Option.some Jvm.ClassFile.FieldType.double)) ∈ lw_all := lw_g (lw_at lw_m9 48 rfl) rfl
theorem q2037 : (Jvm.Cond.methodLink "CurtainRiggers" (349 : Nat) ({ cls := "CurtainRiggers", name := "checkNumbers", desc := "(Z)V" } : Jvm.MethodName)) ∈ lw_all := lw_g (lw_at lw_m9 49 rfl) rfl
theorem q2038 : (Jvm.Cond.static ({ cls := "CurtainRiggers", name := "checkNumbers", desc := "(Z)V" } : Jvm.MethodName)) ∈ lw_all := lw_g (lw_at lw_m9 50 rfl) rfl
theorem q2039 : (Jvm.Cond.code ({ cls := "CurtainRiggers", name := "checkNumbers", desc := "(Z)V" } : Jvm.MethodName) prog_1_method_6_code (1 : Nat) (Option.none : Option Jvm.ClassFile.FieldType)) ∈ lw_all := lw_g (lw_at lw_m9 51 rfl) rfl
theorem q2040 : (Jvm.Cond.classLink "CurtainRiggers" (16 : Nat) "java/lang/ArithmeticException") ∈ lw_all := lw_g (lw_at lw_m9 52 rfl) rfl
theorem q2041 : (Jvm.Cond.methodLink "CurtainRiggers" (18 : Nat) ({ cls := "java/lang/ArithmeticException", name := "<init>", desc := "()V" } : Jvm.MethodName)) ∈ lw_all := lw_g (lw_at lw_m9 53 rfl) rfl
theorem q2049 : (Jvm.Cond.instanceMethod ({ cls := "CurtainRiggers", name := "balancedShare", desc := "()F" } : Jvm.MethodName)) ∈ lw_all := lw_g (lw_at lw_m9 61 rfl) rfl
theorem q2050 : (Jvm.Cond.selects "CurtainRiggers" ({ cls := "CurtainRiggers", name := "balancedShare", desc := "()F" } : Jvm.MethodName) ({ cls := "CurtainRiggers", name := "balancedShare", desc := "()F" } : Jvm.MethodName)) ∈ lw_all := lw_g (lw_at lw_m9 62 rfl) rfl
theorem q2051 : (Jvm.Cond.code ({ cls := "CurtainRiggers", name := "balancedShare", desc := "()F" } : Jvm.MethodName) prog_1_method_47_code (2 : Nat) (Option.some Jvm.ClassFile.FieldType.float)) ∈ lw_all := lw_g (lw_at lw_m9 63 rfl) rfl
theorem q2056 : (Jvm.Cond.instanceMethod ({ cls := "CurtainRiggers", name := "append", desc := "(I)I" } : Jvm.MethodName)) ∈ lw_all := lw_g (lw_at lw_m9 68 rfl) rfl
theorem q2057 : (Jvm.Cond.selects "CurtainRiggers" ({ cls := "CurtainRiggers", name := "append", desc := "(I)I" } : Jvm.MethodName) ({ cls := "CurtainRiggers", name := "append", desc := "(I)I" } : Jvm.MethodName)) ∈ lw_all := lw_g (lw_at lw_m9 69 rfl) rfl
theorem q2058 : (Jvm.Cond.code ({ cls := "CurtainRiggers", name := "append", desc := "(I)I" } : Jvm.MethodName) prog_1_method_48_code (5 : Nat) (Option.some Jvm.ClassFile.FieldType.int)) ∈ lw_all := lw_g (lw_at lw_m9 70 rfl) rfl
theorem q2059 : (Jvm.Cond.constantLong "CurtainRiggers" (352 : Nat) (32 : Int64)) ∈ lw_all := lw_g (lw_at lw_m9 71 rfl) rfl
theorem q2060 : (Jvm.Cond.constantLong "CurtainRiggers" (354 : Nat) (126 : Int64)) ∈ lw_all := lw_g (lw_at lw_m9 72 rfl) rfl
theorem q2061 : (Jvm.Cond.methodLink "CurtainRiggers" (356 : Nat) ({ cls := "java/lang/StringBuilder", name := "append", desc := "(C)Ljava/lang/StringBuilder;" } : Jvm.MethodName)) ∈ lw_all := lw_g (lw_at lw_m9 73 rfl) rfl
theorem q2066 : (Jvm.Cond.instanceMethod ({ cls := "CurtainRiggers", name := "read", desc := "()I" } : Jvm.MethodName)) ∈ lw_all := lw_g (lw_at lw_m9 78 rfl) rfl
theorem q2067 : (Jvm.Cond.selects "CurtainRiggers" ({ cls := "CurtainRiggers", name := "read", desc := "()I" } : Jvm.MethodName) ({ cls := "CurtainRiggers", name := "read", desc := "()I" } : Jvm.MethodName)) ∈ lw_all := lw_g (lw_at lw_m9 79 rfl) rfl
theorem q2068 : (Jvm.Cond.codeWith ({ cls := "CurtainRiggers", name := "read", desc := "()I" } : Jvm.MethodName) prog_1_method_50_code (7 : Nat) (Option.some Jvm.ClassFile.FieldType.int) [((15 : Nat), (57 : Nat), (60 : Nat), (92 : Nat)), ((15 : Nat), (57 : Nat), (81 : Nat), (7 : Nat)), ((15 : Nat), (57 : Nat), (81 : Nat), (1 : Nat))]) ∈ lw_all := lw_g (lw_at lw_m9 80 rfl) rfl
theorem q2069 : (Jvm.Cond.methodLink "CurtainRiggers" (375 : Nat) ({ cls := "CurtainRiggers", name := "takeItems", desc := "()Ljava/util/ArrayList;" } : Jvm.MethodName)) ∈ lw_all := lw_g (lw_at lw_m9 81 rfl) rfl
theorem q2070 : (Jvm.Cond.privateMethod ({ cls := "CurtainRiggers", name := "takeItems", desc := "()Ljava/util/ArrayList;" } : Jvm.MethodName)) ∈ lw_tbl := lw_at lw_m9 82 rfl
theorem q2071 : (Jvm.Cond.instanceMethod ({ cls := "CurtainRiggers", name := "takeItems", desc := "()Ljava/util/ArrayList;" } : Jvm.MethodName)) ∈ lw_all := lw_g (lw_at lw_m9 83 rfl) rfl
theorem q2072 : (Jvm.Cond.codeWith ({ cls := "CurtainRiggers", name := "takeItems", desc := "()Ljava/util/ArrayList;" } : Jvm.MethodName) prog_1_method_49_code (3 : Nat) (Option.some (Jvm.ClassFile.FieldType.object "java/util/ArrayList")) [((23 : Nat), (27 : Nat), (28 : Nat), (369 : Nat))]) ∈ lw_all := lw_g (lw_at lw_m9 84 rfl) rfl
theorem q2073 : (Jvm.Cond.classLink "CurtainRiggers" (369 : Nat) "CurtainRiggers$SyntaxException") ∈ lw_all := lw_g (lw_at lw_m9 85 rfl) rfl
theorem q2074 : (Jvm.Cond.classLink "CurtainRiggers" (360 : Nat) "CurtainRiggers$Parser") ∈ lw_all := lw_g (lw_at lw_m9 86 rfl) rfl
theorem q2076 : (Jvm.Cond.methodLink "CurtainRiggers" (362 : Nat) ({ cls := "CurtainRiggers$Parser", name := "<init>", desc := "(Ljava/lang/CharSequence;)V" } : Jvm.MethodName)) ∈ lw_all := lw_g (lw_at lw_m9 88 rfl) rfl
theorem q2087 : (Jvm.Cond.methodLink "CurtainRiggers" (365 : Nat) ({ cls := "CurtainRiggers$Parser", name := "items", desc := "()Ljava/util/ArrayList;" } : Jvm.MethodName)) ∈ lw_all := lw_g (lw_at lw_m9 99 rfl) rfl
theorem q2163 : (Jvm.Cond.fieldLinkNest "CurtainRiggers" (379 : Nat) "CurtainRiggers$SyntaxException" "position" "I" "CurtainRiggers") ∈ lw_tbl := lw_at lw_m9 175 rfl
theorem q2195 : (Jvm.Cond.methodLink "CurtainRiggers" (378 : Nat) ({ cls := "java/util/ArrayList", name := "iterator", desc := "()Ljava/util/Iterator;" } : Jvm.MethodName)) ∈ lw_all := lw_g (lw_at lw_m9 207 rfl) rfl
theorem q2200 : (Jvm.Cond.instanceMethod ({ cls := "CurtainRiggers", name := "errorPosition", desc := "()I" } : Jvm.MethodName)) ∈ lw_all := lw_g (lw_at lw_m9 212 rfl) rfl
theorem q2201 : (Jvm.Cond.selects "CurtainRiggers" ({ cls := "CurtainRiggers", name := "errorPosition", desc := "()I" } : Jvm.MethodName) ({ cls := "CurtainRiggers", name := "errorPosition", desc := "()I" } : Jvm.MethodName)) ∈ lw_all := lw_g (lw_at lw_m9 213 rfl) rfl
theorem q2202 : (Jvm.Cond.code ({ cls := "CurtainRiggers", name := "errorPosition", desc := "()I" } : Jvm.MethodName) prog_1_method_51_code (1 : Nat) (Option.some Jvm.ClassFile.FieldType.int)) ∈ lw_all := lw_g (lw_at lw_m9 214 rfl) rfl
theorem q2207 : (Jvm.Cond.instanceMethod ({ cls := "CurtainRiggers", name := "refusedItem", desc := "()I" } : Jvm.MethodName)) ∈ lw_all := lw_g (lw_at lw_m9 219 rfl) rfl
theorem q2208 : (Jvm.Cond.selects "CurtainRiggers" ({ cls := "CurtainRiggers", name := "refusedItem", desc := "()I" } : Jvm.MethodName) ({ cls := "CurtainRiggers", name := "refusedItem", desc := "()I" } : Jvm.MethodName)) ∈ lw_all := lw_g (lw_at lw_m9 220 rfl) rfl
theorem q2209 : (Jvm.Cond.code ({ cls := "CurtainRiggers", name := "refusedItem", desc := "()I" } : Jvm.MethodName) prog_1_method_52_code (1 : Nat) (Option.some Jvm.ClassFile.FieldType.int)) ∈ lw_all := lw_g (lw_at lw_m9 221 rfl) rfl
theorem q2214 : (Jvm.Cond.instanceMethod ({ cls := "CurtainRiggers", name := "undo", desc := "()I" } : Jvm.MethodName)) ∈ lw_all := lw_g (lw_at lw_m9 226 rfl) rfl
theorem q2215 : (Jvm.Cond.selects "CurtainRiggers" ({ cls := "CurtainRiggers", name := "undo", desc := "()I" } : Jvm.MethodName) ({ cls := "CurtainRiggers", name := "undo", desc := "()I" } : Jvm.MethodName)) ∈ lw_all := lw_g (lw_at lw_m9 227 rfl) rfl
theorem q2216 : (Jvm.Cond.code ({ cls := "CurtainRiggers", name := "undo", desc := "()I" } : Jvm.MethodName) prog_1_method_53_code (1 : Nat) (Option.some Jvm.ClassFile.FieldType.int)) ∈ lw_all := lw_g (lw_at lw_m9 228 rfl) rfl
theorem q2217 : (Jvm.Cond.methodLink "CurtainRiggers" (382 : Nat) ({ cls := "java/util/ArrayDeque", name := "isEmpty", desc := "()Z" } : Jvm.MethodName)) ∈ lw_all := lw_g (lw_at lw_m9 229 rfl) rfl
theorem q2221 : (Jvm.Cond.methodLink "CurtainRiggers" (385 : Nat) ({ cls := "java/util/ArrayDeque", name := "removeLast", desc := "()Ljava/lang/Object;" } : Jvm.MethodName)) ∈ lw_all := lw_g (lw_at lw_m9 233 rfl) rfl
theorem q2236 : (Jvm.Cond.instanceMethod ({ cls := "CurtainRiggers", name := "restore", desc := "()I" } : Jvm.MethodName)) ∈ lw_all := lw_g (lw_at lw_m10 8 rfl) rfl
theorem q2237 : (Jvm.Cond.selects "CurtainRiggers" ({ cls := "CurtainRiggers", name := "restore", desc := "()I" } : Jvm.MethodName) ({ cls := "CurtainRiggers", name := "restore", desc := "()I" } : Jvm.MethodName)) ∈ lw_all := lw_g (lw_at lw_m10 9 rfl) rfl
theorem q2238 : (Jvm.Cond.code ({ cls := "CurtainRiggers", name := "restore", desc := "()I" } : Jvm.MethodName) prog_1_method_55_code (1 : Nat) (Option.some Jvm.ClassFile.FieldType.int)) ∈ lw_all := lw_g (lw_at lw_m10 10 rfl) rfl
theorem q2706 : (Jvm.Cond.castable "CurtainRiggers" "java/lang/Object") ∈ lw_tbl := lw_at lw_m11 238 rfl
theorem in_X1 : ∀ w ∈ wsX10, w ∈ lw_all := lw_in wsX10 [285, 287, 289, 291, 293, 295, 297, 299] (by decide +kernel) (by decide +kernel)

/-! CurtainRiggers$Refused -/
set_option maxRecDepth 100000
def RX10 : String := "CurtainRiggers$Refused"
def TX10 : u_T := fun k => match k with
  | 0 => ("java/lang/Throwable", "cause", "Ljava/lang/Throwable;", false)
  | 1 => ("java/lang/Throwable", "stackTrace", "[Ljava/lang/StackTraceElement;", false)
  | 2 => ("java/lang/Throwable", "suppressedExceptions", "Ljava/util/List;", false)
  | 3 => ("java/lang/Throwable", "detailMessage", "Ljava/lang/String;", false)
  | 4 => ("java/lang/Throwable", "backtrace", "Ljava/lang/Object;", false)
  | 5 => ("java/lang/Throwable", "depth", "I", false)
  | 6 => ("CurtainRiggers$Refused", "reason", "I", true)
  | _ => ("CurtainRiggers$Refused", "detail", "I", true)
def tyX10 : Nat → FieldType := fun k => match k with
  | 0 => .object "java/lang/Throwable"
  | 1 => .array (.object "java/lang/StackTraceElement")
  | 2 => .object "java/util/List"
  | 3 => .object "java/lang/String"
  | 4 => .object "java/lang/Object"
  | 5 => .int
  | 6 => .int
  | _ => .int
abbrev wsX100 : List Cond := u_ws RX10 TX10 8
theorem nmX10 : ∀ a, a < 8 → ∀ b, b < 8 → a ≠ b → (TX10 a).2.1 ≠ (TX10 b).2.1 := by decide +kernel
theorem tyX10_ok : ∀ k, k < 8 → parseFieldDescriptor (TX10 k).2.2.1 = some (tyX10 k) := by decide +kernel
abbrev cX10_check : ByteArray := prog_14_method_2_code
def yX10_check : MethodName := ⟨RX10, "check", "(ZII)V"⟩
def dkwX10_check_0 : List UInt8 := [26, 154, 0, 13, 187, 0, 8, 89, 27, 28, 183, 0, 16, 191, 177]
abbrev dktX10_check_0 : List UInt8 := dkwX10_check_0 ++ []
theorem dksX10_check_0 : cX10_check.data.toList.drop 0 = dktX10_check_0 := by decide +kernel
theorem dX10_check_0 : decode cX10_check 0 = .ok (.iload_n 0, 1) := dk_26 (dk_at dksX10_check_0 0 rfl rfl)
theorem dX10_check_1 : decode cX10_check 1 = .ok (.ifCond .ne 13, 3) := dk_154 0 13 (dk_at dksX10_check_0 1 rfl rfl)
theorem dX10_check_4 : decode cX10_check 4 = .ok (.new 8, 3) := dk_187 0 8 (dk_at dksX10_check_0 4 rfl rfl)
theorem dX10_check_7 : decode cX10_check 7 = .ok (.dup, 1) := dk_89 (dk_at dksX10_check_0 7 rfl rfl)
theorem dX10_check_8 : decode cX10_check 8 = .ok (.iload_n 1, 1) := dk_27 (dk_at dksX10_check_0 8 rfl rfl)
theorem dX10_check_9 : decode cX10_check 9 = .ok (.iload_n 2, 1) := dk_28 (dk_at dksX10_check_0 9 rfl rfl)
theorem dX10_check_10 : decode cX10_check 10 = .ok (.invokespecial 16, 3) := dk_183 0 16 (dk_at dksX10_check_0 10 rfl rfl)
theorem dX10_check_13 : decode cX10_check 13 = .ok (.athrow, 1) := dk_191 (dk_at dksX10_check_0 13 rfl rfl)
theorem dX10_check_14 : decode cX10_check 14 = .ok (.return_, 1) := dk_177 (dk_at dksX10_check_0 14 rfl rfl)
abbrev cX10_init : ByteArray := prog_14_method_1_code
def yX10_init : MethodName := ⟨RX10, "<init>", "(II)V"⟩
def dkwX10_init_0 : List UInt8 := [42, 1, 1, 3, 3, 183, 0, 1, 42, 27, 181, 0, 7, 42, 28, 181, 0, 13, 177]
abbrev dktX10_init_0 : List UInt8 := dkwX10_init_0 ++ []
theorem dksX10_init_0 : cX10_init.data.toList.drop 0 = dktX10_init_0 := by decide +kernel
theorem dX10_init_0 : decode cX10_init 0 = .ok (.aload_n 0, 1) := dk_42 (dk_at dksX10_init_0 0 rfl rfl)
theorem dX10_init_1 : decode cX10_init 1 = .ok (.aconst_null, 1) := dk_1 (dk_at dksX10_init_0 1 rfl rfl)
theorem dX10_init_2 : decode cX10_init 2 = .ok (.aconst_null, 1) := dk_1 (dk_at dksX10_init_0 2 rfl rfl)
theorem dX10_init_3 : decode cX10_init 3 = .ok (.iconst 0, 1) := dk_3 (dk_at dksX10_init_0 3 rfl rfl)
theorem dX10_init_4 : decode cX10_init 4 = .ok (.iconst 0, 1) := dk_3 (dk_at dksX10_init_0 4 rfl rfl)
theorem dX10_init_5 : decode cX10_init 5 = .ok (.invokespecial 1, 3) := dk_183 0 1 (dk_at dksX10_init_0 5 rfl rfl)
theorem dX10_init_8 : decode cX10_init 8 = .ok (.aload_n 0, 1) := dk_42 (dk_at dksX10_init_0 8 rfl rfl)
theorem dX10_init_9 : decode cX10_init 9 = .ok (.iload_n 1, 1) := dk_27 (dk_at dksX10_init_0 9 rfl rfl)
theorem dX10_init_10 : decode cX10_init 10 = .ok (.putfield 7, 3) := dk_181 0 7 (dk_at dksX10_init_0 10 rfl rfl)
theorem dX10_init_13 : decode cX10_init 13 = .ok (.aload_n 0, 1) := dk_42 (dk_at dksX10_init_0 13 rfl rfl)
theorem dX10_init_14 : decode cX10_init 14 = .ok (.iload_n 2, 1) := dk_28 (dk_at dksX10_init_0 14 rfl rfl)
theorem dX10_init_15 : decode cX10_init 15 = .ok (.putfield 13, 3) := dk_181 0 13 (dk_at dksX10_init_0 15 rfl rfl)
theorem dX10_init_18 : decode cX10_init 18 = .ok (.return_, 1) := dk_177 (dk_at dksX10_init_0 18 rfl rfl)
theorem q102 : (Jvm.Cond.initialized "CurtainRiggers$Refused") ∈ lw_all := lw_g (lw_at lw_m1 34 rfl) rfl
theorem q454 : (Jvm.Cond.selects "CurtainRiggers$Refused" ({ cls := "java/lang/Throwable", name := "fillInStackTrace", desc := "()Ljava/lang/Throwable;" } : Jvm.MethodName) ({ cls := "java/lang/Throwable", name := "fillInStackTrace", desc := "()Ljava/lang/Throwable;" } : Jvm.MethodName)) ∈ lw_all := lw_g (lw_at lw_m2 146 rfl) rfl
theorem q686 : (Jvm.Cond.selects "CurtainRiggers$Refused" ({ cls := "java/lang/Object", name := "getClass", desc := "()Ljava/lang/Class;" } : Jvm.MethodName) ({ cls := "java/lang/Object", name := "getClass", desc := "()Ljava/lang/Class;" } : Jvm.MethodName)) ∈ lw_all := lw_g (lw_at lw_m3 138 rfl) rfl
theorem q1143 : (Jvm.Cond.static ({ cls := "CurtainRiggers$Refused", name := "check", desc := "(ZII)V" } : Jvm.MethodName)) ∈ lw_all := lw_g (lw_at lw_m5 115 rfl) rfl
theorem q1144 : (Jvm.Cond.code ({ cls := "CurtainRiggers$Refused", name := "check", desc := "(ZII)V" } : Jvm.MethodName) prog_14_method_2_code (3 : Nat) (Option.none : Option Jvm.ClassFile.FieldType)) ∈ lw_all := lw_g (lw_at lw_m5 116 rfl) rfl
theorem q1145 : (Jvm.Cond.classLink "CurtainRiggers$Refused" (8 : Nat) "CurtainRiggers$Refused") ∈ lw_all := lw_g (lw_at lw_m5 117 rfl) rfl
theorem q1146 : (Jvm.Cond.instantiable "CurtainRiggers$Refused" (8 : Nat)) ∈ lw_all := lw_g (lw_at lw_m5 118 rfl) rfl
theorem q1147 : (Jvm.Cond.castable "CurtainRiggers$Refused" "CurtainRiggers$Refused") ∈ lw_tbl := lw_at lw_m5 119 rfl
theorem q1148 : (Jvm.Cond.selects "CurtainRiggers$Refused" ({ cls := "java/lang/Throwable", name := "fillInStackTrace", desc := "(I)Ljava/lang/Throwable;" } : Jvm.MethodName) ({ cls := "java/lang/Throwable", name := "fillInStackTrace", desc := "(I)Ljava/lang/Throwable;" } : Jvm.MethodName)) ∈ lw_all := lw_g (lw_at lw_m5 120 rfl) rfl
theorem q1149 : (Jvm.Cond.lays "CurtainRiggers$Refused" "java/lang/Throwable" "cause" "Ljava/lang/Throwable;") ∈ lw_all := lw_g (lw_at lw_m5 121 rfl) rfl
theorem q1150 : (Jvm.Cond.lays "CurtainRiggers$Refused" "java/lang/Throwable" "stackTrace" "[Ljava/lang/StackTraceElement;") ∈ lw_all := lw_g (lw_at lw_m5 122 rfl) rfl
theorem q1151 : (Jvm.Cond.lays "CurtainRiggers$Refused" "java/lang/Throwable" "suppressedExceptions" "Ljava/util/List;") ∈ lw_all := lw_g (lw_at lw_m5 123 rfl) rfl
theorem q1152 : (Jvm.Cond.lays "CurtainRiggers$Refused" "java/lang/Throwable" "detailMessage" "Ljava/lang/String;") ∈ lw_all := lw_g (lw_at lw_m5 124 rfl) rfl
theorem q1153 : (Jvm.Cond.lays "CurtainRiggers$Refused" "java/lang/Throwable" "backtrace" "Ljava/lang/Object;") ∈ lw_all := lw_g (lw_at lw_m5 125 rfl) rfl
theorem q1154 : (Jvm.Cond.methodLink "CurtainRiggers$Refused" (16 : Nat) ({ cls := "CurtainRiggers$Refused", name := "<init>", desc := "(II)V" } : Jvm.MethodName)) ∈ lw_all := lw_g (lw_at lw_m5 126 rfl) rfl
theorem q1155 : (Jvm.Cond.instanceMethod ({ cls := "CurtainRiggers$Refused", name := "<init>", desc := "(II)V" } : Jvm.MethodName)) ∈ lw_all := lw_g (lw_at lw_m5 127 rfl) rfl
theorem q1156 : (Jvm.Cond.code ({ cls := "CurtainRiggers$Refused", name := "<init>", desc := "(II)V" } : Jvm.MethodName) prog_14_method_1_code (3 : Nat) (Option.none : Option Jvm.ClassFile.FieldType)) ∈ lw_all := lw_g (lw_at lw_m5 128 rfl) rfl
theorem q1157 : (Jvm.Cond.methodLink "CurtainRiggers$Refused" (1 : Nat) ({ cls := "java/lang/Exception", name := "<init>", desc := "(Ljava/lang/String;Ljava/lang/Throwable;ZZ)V" } : Jvm.MethodName)) ∈ lw_all := lw_g (lw_at lw_m5 129 rfl) rfl
theorem q1163 : (Jvm.Cond.fieldLink "CurtainRiggers$Refused" (7 : Nat) "CurtainRiggers$Refused" "reason" "I") ∈ lw_all := lw_g (lw_at lw_m5 135 rfl) rfl
theorem q1166 : (Jvm.Cond.fieldLink "CurtainRiggers$Refused" (13 : Nat) "CurtainRiggers$Refused" "detail" "I") ∈ lw_all := lw_g (lw_at lw_m5 138 rfl) rfl
theorem q1168 : (Jvm.Cond.laysFinal "CurtainRiggers$Refused" "CurtainRiggers$Refused" "reason" "I") ∈ lw_all := lw_g (lw_at lw_m5 140 rfl) rfl
theorem q1169 : (Jvm.Cond.soleField "CurtainRiggers$Refused" "reason") ∈ lw_all := lw_g (lw_at lw_m5 141 rfl) rfl
theorem q1170 : (Jvm.Cond.laysFinal "CurtainRiggers$Refused" "CurtainRiggers$Refused" "detail" "I") ∈ lw_all := lw_g (lw_at lw_m5 142 rfl) rfl
theorem q1171 : (Jvm.Cond.soleField "CurtainRiggers$Refused" "detail") ∈ lw_all := lw_g (lw_at lw_m5 143 rfl) rfl
theorem q1172 : (Jvm.Cond.lays "CurtainRiggers$Refused" "java/lang/Throwable" "depth" "I") ∈ lw_all := lw_g (lw_at lw_m5 144 rfl) rfl
theorem q1173 : (Jvm.Cond.superclass "CurtainRiggers$Refused" "java/lang/Exception") ∈ lw_all := lw_g (lw_at lw_m5 145 rfl) rfl
theorem q2719 : (Jvm.Cond.castable "CurtainRiggers$Refused" "java/lang/Object") ∈ lw_tbl := lw_at lw_m12 11 rfl
theorem in_X10 : ∀ w ∈ wsX100, w ∈ lw_all := lw_in wsX100 [1149, 1150, 1151, 1152, 1153, 1172, 1168, 1170] (by decide +kernel) (by decide +kernel)

/-! CurtainRiggers$Theatre$1OnFloor -/
set_option maxRecDepth 100000
def RX11 : String := "CurtainRiggers$Theatre$1OnFloor"
def TX11 : u_T := fun k => match k with
  | 0 => ("CurtainRiggers$Theatre$1OnFloor", "val$floor", "I", true)
  | _ => ("CurtainRiggers$Theatre$1OnFloor", "this$0", "LCurtainRiggers$Theatre;", true)
def tyX11 : Nat → FieldType := fun k => match k with
  | 0 => .int
  | _ => .object "CurtainRiggers$Theatre"
abbrev wsX110 : List Cond := u_ws RX11 TX11 2
theorem nmX11 : ∀ a, a < 2 → ∀ b, b < 2 → a ≠ b → (TX11 a).2.1 ≠ (TX11 b).2.1 := by decide +kernel
theorem tyX11_ok : ∀ k, k < 2 → parseFieldDescriptor (TX11 k).2.2.1 = some (tyX11 k) := by decide +kernel
abbrev cX11_init : ByteArray := prog_19_method_1_code
def yX11_init : MethodName := ⟨RX11, "<init>", "(LCurtainRiggers$Theatre;I)V"⟩
def dkwX11_init_0 : List UInt8 := [42, 43, 181, 0, 1, 42, 28, 181, 0, 7, 42, 183, 0, 11, 177]
abbrev dktX11_init_0 : List UInt8 := dkwX11_init_0 ++ []
theorem dksX11_init_0 : cX11_init.data.toList.drop 0 = dktX11_init_0 := by decide +kernel
theorem dX11_init_0 : decode cX11_init 0 = .ok (.aload_n 0, 1) := dk_42 (dk_at dksX11_init_0 0 rfl rfl)
theorem dX11_init_1 : decode cX11_init 1 = .ok (.aload_n 1, 1) := dk_43 (dk_at dksX11_init_0 1 rfl rfl)
theorem dX11_init_2 : decode cX11_init 2 = .ok (.putfield 1, 3) := dk_181 0 1 (dk_at dksX11_init_0 2 rfl rfl)
theorem dX11_init_5 : decode cX11_init 5 = .ok (.aload_n 0, 1) := dk_42 (dk_at dksX11_init_0 5 rfl rfl)
theorem dX11_init_6 : decode cX11_init 6 = .ok (.iload_n 2, 1) := dk_28 (dk_at dksX11_init_0 6 rfl rfl)
theorem dX11_init_7 : decode cX11_init 7 = .ok (.putfield 7, 3) := dk_181 0 7 (dk_at dksX11_init_0 7 rfl rfl)
theorem dX11_init_10 : decode cX11_init 10 = .ok (.aload_n 0, 1) := dk_42 (dk_at dksX11_init_0 10 rfl rfl)
theorem dX11_init_11 : decode cX11_init 11 = .ok (.invokespecial 11, 3) := dk_183 0 11 (dk_at dksX11_init_0 11 rfl rfl)
theorem dX11_init_14 : decode cX11_init 14 = .ok (.return_, 1) := dk_177 (dk_at dksX11_init_0 14 rfl rfl)
abbrev cX11_of : ByteArray := prog_19_method_3_code
def yX11_of : MethodName := ⟨RX11, "of", "(Ljava/lang/Object;)I"⟩
def dkwX11_of_0 : List UInt8 := [42, 43, 192, 0, 18, 182, 0, 25, 172]
abbrev dktX11_of_0 : List UInt8 := dkwX11_of_0 ++ []
theorem dksX11_of_0 : cX11_of.data.toList.drop 0 = dktX11_of_0 := by decide +kernel
theorem dX11_of_0 : decode cX11_of 0 = .ok (.aload_n 0, 1) := dk_42 (dk_at dksX11_of_0 0 rfl rfl)
theorem dX11_of_1 : decode cX11_of 1 = .ok (.aload_n 1, 1) := dk_43 (dk_at dksX11_of_0 1 rfl rfl)
theorem dX11_of_2 : decode cX11_of 2 = .ok (.checkcast 18, 3) := dk_192 0 18 (dk_at dksX11_of_0 2 rfl rfl)
theorem dX11_of_5 : decode cX11_of 5 = .ok (.invokevirtual 25, 3) := dk_182 0 25 (dk_at dksX11_of_0 5 rfl rfl)
theorem dX11_of_8 : decode cX11_of 8 = .ok (.ireturn, 1) := dk_172 (dk_at dksX11_of_0 8 rfl rfl)
abbrev cX11_of_2 : ByteArray := prog_19_method_2_code
def yX11_of_2 : MethodName := ⟨RX11, "of", "(LCurtainRiggers$Hand;)I"⟩
def dkwX11_of_2_0 : List UInt8 := [43, 180, 0, 17, 42, 180, 0, 7, 160, 0, 10, 43, 180, 0, 22, 167, 0, 4, 3, 172]
abbrev dktX11_of_2_0 : List UInt8 := dkwX11_of_2_0 ++ []
theorem dksX11_of_2_0 : cX11_of_2.data.toList.drop 0 = dktX11_of_2_0 := by decide +kernel
theorem dX11_of_2_0 : decode cX11_of_2 0 = .ok (.aload_n 1, 1) := dk_43 (dk_at dksX11_of_2_0 0 rfl rfl)
theorem dX11_of_2_1 : decode cX11_of_2 1 = .ok (.getfield 17, 3) := dk_180 0 17 (dk_at dksX11_of_2_0 1 rfl rfl)
theorem dX11_of_2_4 : decode cX11_of_2 4 = .ok (.aload_n 0, 1) := dk_42 (dk_at dksX11_of_2_0 4 rfl rfl)
theorem dX11_of_2_5 : decode cX11_of_2 5 = .ok (.getfield 7, 3) := dk_180 0 7 (dk_at dksX11_of_2_0 5 rfl rfl)
theorem dX11_of_2_8 : decode cX11_of_2 8 = .ok (.if_icmp .ne 10, 3) := dk_160 0 10 (dk_at dksX11_of_2_0 8 rfl rfl)
theorem dX11_of_2_11 : decode cX11_of_2 11 = .ok (.aload_n 1, 1) := dk_43 (dk_at dksX11_of_2_0 11 rfl rfl)
theorem dX11_of_2_12 : decode cX11_of_2 12 = .ok (.getfield 22, 3) := dk_180 0 22 (dk_at dksX11_of_2_0 12 rfl rfl)
theorem dX11_of_2_15 : decode cX11_of_2 15 = .ok (.goto 4, 3) := dk_167 0 4 (dk_at dksX11_of_2_0 15 rfl rfl)
theorem dX11_of_2_18 : decode cX11_of_2 18 = .ok (.iconst 0, 1) := dk_3 (dk_at dksX11_of_2_0 18 rfl rfl)
theorem dX11_of_2_19 : decode cX11_of_2 19 = .ok (.ireturn, 1) := dk_172 (dk_at dksX11_of_2_0 19 rfl rfl)
theorem q103 : (Jvm.Cond.initialized "CurtainRiggers$Theatre$1OnFloor") ∈ lw_all := lw_g (lw_at lw_m1 35 rfl) rfl
theorem q633 : (Jvm.Cond.fieldLinkNest "CurtainRiggers$Theatre$1OnFloor" (22 : Nat) "CurtainRiggers$Hand" "strength" "I" "CurtainRiggers") ∈ lw_tbl := lw_at lw_m3 85 rfl
theorem q635 : (Jvm.Cond.fieldLinkNest "CurtainRiggers$Theatre$1OnFloor" (17 : Nat) "CurtainRiggers$Hand" "floor" "I" "CurtainRiggers") ∈ lw_tbl := lw_at lw_m3 87 rfl
theorem q691 : (Jvm.Cond.selects "CurtainRiggers$Theatre$1OnFloor" ({ cls := "java/lang/Object", name := "getClass", desc := "()Ljava/lang/Class;" } : Jvm.MethodName) ({ cls := "java/lang/Object", name := "getClass", desc := "()Ljava/lang/Class;" } : Jvm.MethodName)) ∈ lw_all := lw_g (lw_at lw_m3 143 rfl) rfl
theorem q1207 : (Jvm.Cond.instantiable "CurtainRiggers$Theatre$1OnFloor" (2 : Nat)) ∈ lw_all := lw_g (lw_at lw_m5 179 rfl) rfl
theorem q1209 : (Jvm.Cond.instanceMethod ({ cls := "CurtainRiggers$Theatre$1OnFloor", name := "<init>", desc := "(LCurtainRiggers$Theatre;I)V" } : Jvm.MethodName)) ∈ lw_all := lw_g (lw_at lw_m5 181 rfl) rfl
theorem q1210 : (Jvm.Cond.code ({ cls := "CurtainRiggers$Theatre$1OnFloor", name := "<init>", desc := "(LCurtainRiggers$Theatre;I)V" } : Jvm.MethodName) prog_19_method_1_code (3 : Nat) (Option.none : Option Jvm.ClassFile.FieldType)) ∈ lw_all := lw_g (lw_at lw_m5 182 rfl) rfl
theorem q1211 : (Jvm.Cond.methodLink "CurtainRiggers$Theatre$1OnFloor" (11 : Nat) ({ cls := "java/lang/Object", name := "<init>", desc := "()V" } : Jvm.MethodName)) ∈ lw_all := lw_g (lw_at lw_m5 183 rfl) rfl
theorem q1212 : (Jvm.Cond.fieldLink "CurtainRiggers$Theatre$1OnFloor" (7 : Nat) "CurtainRiggers$Theatre$1OnFloor" "val$floor" "I") ∈ lw_all := lw_g (lw_at lw_m5 184 rfl) rfl
theorem q1213 : (Jvm.Cond.fieldLink "CurtainRiggers$Theatre$1OnFloor" (1 : Nat) "CurtainRiggers$Theatre$1OnFloor" "this$0" "LCurtainRiggers$Theatre;") ∈ lw_all := lw_g (lw_at lw_m5 185 rfl) rfl
theorem q1214 : (Jvm.Cond.laysFinal "CurtainRiggers$Theatre$1OnFloor" "CurtainRiggers$Theatre$1OnFloor" "val$floor" "I") ∈ lw_all := lw_g (lw_at lw_m5 186 rfl) rfl
theorem q1215 : (Jvm.Cond.soleField "CurtainRiggers$Theatre$1OnFloor" "val$floor") ∈ lw_all := lw_g (lw_at lw_m5 187 rfl) rfl
theorem q1216 : (Jvm.Cond.laysFinal "CurtainRiggers$Theatre$1OnFloor" "CurtainRiggers$Theatre$1OnFloor" "this$0" "LCurtainRiggers$Theatre;") ∈ lw_all := lw_g (lw_at lw_m5 188 rfl) rfl
theorem q1217 : (Jvm.Cond.soleField "CurtainRiggers$Theatre$1OnFloor" "this$0") ∈ lw_all := lw_g (lw_at lw_m5 189 rfl) rfl
theorem q1218 : (Jvm.Cond.superclass "CurtainRiggers$Theatre$1OnFloor" "java/lang/Object") ∈ lw_all := lw_g (lw_at lw_m5 190 rfl) rfl
theorem q1243 : (Jvm.Cond.castable "CurtainRiggers$Theatre$1OnFloor" "CurtainRiggers$Measure") ∈ lw_tbl := lw_at lw_m5 215 rfl
theorem q1244 : (Jvm.Cond.selects "CurtainRiggers$Theatre$1OnFloor" ({ cls := "CurtainRiggers$Measure", name := "of", desc := "(Ljava/lang/Object;)I" } : Jvm.MethodName) ({ cls := "CurtainRiggers$Theatre$1OnFloor", name := "of", desc := "(Ljava/lang/Object;)I" } : Jvm.MethodName)) ∈ lw_all := lw_g (lw_at lw_m5 216 rfl) rfl
theorem q1245 : (Jvm.Cond.unhidden "CurtainRiggers$Theatre$1OnFloor" "of" "(Ljava/lang/Object;)I") ∈ lw_tbl := lw_at lw_m5 217 rfl
theorem q1246 : (Jvm.Cond.instanceMethod ({ cls := "CurtainRiggers$Theatre$1OnFloor", name := "of", desc := "(Ljava/lang/Object;)I" } : Jvm.MethodName)) ∈ lw_all := lw_g (lw_at lw_m5 218 rfl) rfl
theorem q1247 : (Jvm.Cond.publicMethod ({ cls := "CurtainRiggers$Theatre$1OnFloor", name := "of", desc := "(Ljava/lang/Object;)I" } : Jvm.MethodName)) ∈ lw_tbl := lw_at lw_m5 219 rfl
theorem q1248 : (Jvm.Cond.code ({ cls := "CurtainRiggers$Theatre$1OnFloor", name := "of", desc := "(Ljava/lang/Object;)I" } : Jvm.MethodName) prog_19_method_3_code (2 : Nat) (Option.some Jvm.ClassFile.FieldType.int)) ∈ lw_all := lw_g (lw_at lw_m5 220 rfl) rfl
theorem q1249 : (Jvm.Cond.classLink "CurtainRiggers$Theatre$1OnFloor" (18 : Nat) "CurtainRiggers$Hand") ∈ lw_all := lw_g (lw_at lw_m5 221 rfl) rfl
theorem q1250 : (Jvm.Cond.methodLink "CurtainRiggers$Theatre$1OnFloor" (25 : Nat) ({ cls := "CurtainRiggers$Theatre$1OnFloor", name := "of", desc := "(LCurtainRiggers$Hand;)I" } : Jvm.MethodName)) ∈ lw_all := lw_g (lw_at lw_m5 222 rfl) rfl
theorem q1251 : (Jvm.Cond.instanceMethod ({ cls := "CurtainRiggers$Theatre$1OnFloor", name := "of", desc := "(LCurtainRiggers$Hand;)I" } : Jvm.MethodName)) ∈ lw_all := lw_g (lw_at lw_m5 223 rfl) rfl
theorem q1252 : (Jvm.Cond.selects "CurtainRiggers$Theatre$1OnFloor" ({ cls := "CurtainRiggers$Theatre$1OnFloor", name := "of", desc := "(LCurtainRiggers$Hand;)I" } : Jvm.MethodName) ({ cls := "CurtainRiggers$Theatre$1OnFloor", name := "of", desc := "(LCurtainRiggers$Hand;)I" } : Jvm.MethodName)) ∈ lw_all := lw_g (lw_at lw_m5 224 rfl) rfl
theorem q1253 : (Jvm.Cond.code ({ cls := "CurtainRiggers$Theatre$1OnFloor", name := "of", desc := "(LCurtainRiggers$Hand;)I" } : Jvm.MethodName) prog_19_method_2_code (2 : Nat) (Option.some Jvm.ClassFile.FieldType.int)) ∈ lw_all := lw_g (lw_at lw_m5 225 rfl) rfl
theorem q2720 : (Jvm.Cond.castable "CurtainRiggers$Theatre$1OnFloor" "java/lang/Object") ∈ lw_tbl := lw_at lw_m12 12 rfl
theorem in_X11 : ∀ w ∈ wsX110, w ∈ lw_all := lw_in wsX110 [1214, 1216] (by decide +kernel) (by decide +kernel)

/-! CurtainRiggers$Measure -/
set_option maxRecDepth 100000
def RX12 : String := "CurtainRiggers$Measure"
abbrev cX12_sum : ByteArray := prog_10_method_2_code
def yX12_sum : MethodName := ⟨RX12, "sum", "(Ljava/lang/Iterable;LCurtainRiggers$Measure;)I"⟩
def dkwX12_sum_1 : List UInt8 := [58, 4, 28, 43, 25, 4, 185, 0, 17, 2, 0, 96, 61, 167, 255, 228, 28, 172]
abbrev dktX12_sum_1 : List UInt8 := dkwX12_sum_1 ++ []
def dkwX12_sum_0 : List UInt8 := [3, 61, 42, 185, 0, 1, 1, 0, 78, 45, 185, 0, 7, 1, 0, 153, 0, 25, 45, 185, 0, 13, 1, 0]
abbrev dktX12_sum_0 : List UInt8 := dkwX12_sum_0 ++ dktX12_sum_1
theorem dksX12_sum_0 : cX12_sum.data.toList.drop 0 = dktX12_sum_0 := by decide +kernel
theorem dksX12_sum_1 : cX12_sum.data.toList.drop 24 = dktX12_sum_1 := dk_seg dksX12_sum_0 24 rfl rfl
theorem dX12_sum_0 : decode cX12_sum 0 = .ok (.iconst 0, 1) := dk_3 (dk_at dksX12_sum_0 0 rfl rfl)
theorem dX12_sum_1 : decode cX12_sum 1 = .ok (.istore_n 2, 1) := dk_61 (dk_at dksX12_sum_0 1 rfl rfl)
theorem dX12_sum_2 : decode cX12_sum 2 = .ok (.aload_n 0, 1) := dk_42 (dk_at dksX12_sum_0 2 rfl rfl)
theorem dX12_sum_3 : decode cX12_sum 3 = .ok (.invokeinterface 1 1, 5) := by decide +kernel
theorem dX12_sum_8 : decode cX12_sum 8 = .ok (.astore_n 3, 1) := dk_78 (dk_at dksX12_sum_0 8 rfl rfl)
theorem dX12_sum_9 : decode cX12_sum 9 = .ok (.aload_n 3, 1) := dk_45 (dk_at dksX12_sum_0 9 rfl rfl)
theorem dX12_sum_10 : decode cX12_sum 10 = .ok (.invokeinterface 7 1, 5) := by decide +kernel
theorem dX12_sum_15 : decode cX12_sum 15 = .ok (.ifCond .eq 25, 3) := dk_153 0 25 (dk_at dksX12_sum_0 15 rfl rfl)
theorem dX12_sum_18 : decode cX12_sum 18 = .ok (.aload_n 3, 1) := dk_45 (dk_at dksX12_sum_0 18 rfl rfl)
theorem dX12_sum_19 : decode cX12_sum 19 = .ok (.invokeinterface 13 1, 5) := by decide +kernel
theorem dX12_sum_24 : decode cX12_sum 24 = .ok (.astore 4, 2) := dk_58 4 (dk_at dksX12_sum_1 0 rfl rfl)
theorem dX12_sum_26 : decode cX12_sum 26 = .ok (.iload_n 2, 1) := dk_28 (dk_at dksX12_sum_1 2 rfl rfl)
theorem dX12_sum_27 : decode cX12_sum 27 = .ok (.aload_n 1, 1) := dk_43 (dk_at dksX12_sum_1 3 rfl rfl)
theorem dX12_sum_28 : decode cX12_sum 28 = .ok (.aload 4, 2) := dk_25 4 (dk_at dksX12_sum_1 4 rfl rfl)
theorem dX12_sum_30 : decode cX12_sum 30 = .ok (.invokeinterface 17 2, 5) := by decide +kernel
theorem dX12_sum_35 : decode cX12_sum 35 = .ok (.iadd, 1) := dk_96 (dk_at dksX12_sum_1 11 rfl rfl)
theorem dX12_sum_36 : decode cX12_sum 36 = .ok (.istore_n 2, 1) := dk_61 (dk_at dksX12_sum_1 12 rfl rfl)
theorem dX12_sum_37 : decode cX12_sum 37 = .ok (.goto (-28), 3) := dk_167 255 228 (dk_at dksX12_sum_1 13 rfl rfl)
theorem dX12_sum_40 : decode cX12_sum 40 = .ok (.iload_n 2, 1) := dk_28 (dk_at dksX12_sum_1 16 rfl rfl)
theorem dX12_sum_41 : decode cX12_sum 41 = .ok (.ireturn, 1) := dk_172 (dk_at dksX12_sum_1 17 rfl rfl)
theorem q104 : (Jvm.Cond.initialized "CurtainRiggers$Measure") ∈ lw_all := lw_g (lw_at lw_m1 36 rfl) rfl
theorem q1220 : (Jvm.Cond.static ({ cls := "CurtainRiggers$Measure", name := "sum", desc := "(Ljava/lang/Iterable;LCurtainRiggers$Measure;)I" } : Jvm.MethodName)) ∈ lw_all := lw_g (lw_at lw_m5 192 rfl) rfl
theorem q1221 : (Jvm.Cond.code ({ cls := "CurtainRiggers$Measure", name := "sum", desc := "(Ljava/lang/Iterable;LCurtainRiggers$Measure;)I" } : Jvm.MethodName) prog_10_method_2_code (5 : Nat) (Option.some Jvm.ClassFile.FieldType.int)) ∈ lw_all := lw_g (lw_at lw_m5 193 rfl) rfl
theorem q1222 : (Jvm.Cond.interfaceEntry "CurtainRiggers$Measure" (1 : Nat)) ∈ lw_tbl := lw_at lw_m5 194 rfl
theorem q1223 : (Jvm.Cond.methodLink "CurtainRiggers$Measure" (1 : Nat) ({ cls := "java/lang/Iterable", name := "iterator", desc := "()Ljava/util/Iterator;" } : Jvm.MethodName)) ∈ lw_all := lw_g (lw_at lw_m5 195 rfl) rfl
theorem q1224 : (Jvm.Cond.interfaceEntry "CurtainRiggers$Measure" (7 : Nat)) ∈ lw_tbl := lw_at lw_m5 196 rfl
theorem q1225 : (Jvm.Cond.methodLink "CurtainRiggers$Measure" (7 : Nat) ({ cls := "java/util/Iterator", name := "hasNext", desc := "()Z" } : Jvm.MethodName)) ∈ lw_all := lw_g (lw_at lw_m5 197 rfl) rfl
theorem q1226 : (Jvm.Cond.interfaceEntry "CurtainRiggers$Measure" (13 : Nat)) ∈ lw_tbl := lw_at lw_m5 198 rfl
theorem q1227 : (Jvm.Cond.methodLink "CurtainRiggers$Measure" (13 : Nat) ({ cls := "java/util/Iterator", name := "next", desc := "()Ljava/lang/Object;" } : Jvm.MethodName)) ∈ lw_all := lw_g (lw_at lw_m5 199 rfl) rfl
theorem q1228 : (Jvm.Cond.interfaceEntry "CurtainRiggers$Measure" (17 : Nat)) ∈ lw_tbl := lw_at lw_m5 200 rfl
theorem q1229 : (Jvm.Cond.methodLink "CurtainRiggers$Measure" (17 : Nat) ({ cls := "CurtainRiggers$Measure", name := "of", desc := "(Ljava/lang/Object;)I" } : Jvm.MethodName)) ∈ lw_all := lw_g (lw_at lw_m5 201 rfl) rfl
theorem q1230 : (Jvm.Cond.interfaceMethod "CurtainRiggers$Measure" "CurtainRiggers$Measure" "of" "(Ljava/lang/Object;)I") ∈ lw_tbl := lw_at lw_m5 202 rfl
theorem q1231 : (Jvm.Cond.declares ({ cls := "CurtainRiggers$Measure", name := "of", desc := "(Ljava/lang/Object;)I" } : Jvm.MethodName)) ∈ lw_tbl := lw_at lw_m5 203 rfl

/-! CurtainRiggers$Row$Steps -/
set_option maxRecDepth 100000
def RX13 : String := "CurtainRiggers$Row$Steps"
def TX13 : u_T := fun k => match k with
  | 0 => ("CurtainRiggers$Row$Steps", "next", "I", false)
  | _ => ("CurtainRiggers$Row$Steps", "this$0", "LCurtainRiggers$Row;", true)
def tyX13 : Nat → FieldType := fun k => match k with
  | 0 => .int
  | _ => .object "CurtainRiggers$Row"
abbrev wsX130 : List Cond := u_ws RX13 TX13 2
theorem nmX13 : ∀ a, a < 2 → ∀ b, b < 2 → a ≠ b → (TX13 a).2.1 ≠ (TX13 b).2.1 := by decide +kernel
theorem tyX13_ok : ∀ k, k < 2 → parseFieldDescriptor (TX13 k).2.2.1 = some (tyX13 k) := by decide +kernel
abbrev cX13_hasNext : ByteArray := prog_16_method_2_code
def yX13_hasNext : MethodName := ⟨RX13, "hasNext", "()Z"⟩
def dkwX13_hasNext_0 : List UInt8 := [42, 180, 0, 13, 42, 180, 0, 1, 180, 0, 17, 182, 0, 23, 162, 0, 7, 4, 167, 0, 4, 3, 172]
abbrev dktX13_hasNext_0 : List UInt8 := dkwX13_hasNext_0 ++ []
theorem dksX13_hasNext_0 : cX13_hasNext.data.toList.drop 0 = dktX13_hasNext_0 := by decide +kernel
theorem dX13_hasNext_0 : decode cX13_hasNext 0 = .ok (.aload_n 0, 1) := dk_42 (dk_at dksX13_hasNext_0 0 rfl rfl)
theorem dX13_hasNext_1 : decode cX13_hasNext 1 = .ok (.getfield 13, 3) := dk_180 0 13 (dk_at dksX13_hasNext_0 1 rfl rfl)
theorem dX13_hasNext_4 : decode cX13_hasNext 4 = .ok (.aload_n 0, 1) := dk_42 (dk_at dksX13_hasNext_0 4 rfl rfl)
theorem dX13_hasNext_5 : decode cX13_hasNext 5 = .ok (.getfield 1, 3) := dk_180 0 1 (dk_at dksX13_hasNext_0 5 rfl rfl)
theorem dX13_hasNext_8 : decode cX13_hasNext 8 = .ok (.getfield 17, 3) := dk_180 0 17 (dk_at dksX13_hasNext_0 8 rfl rfl)
theorem dX13_hasNext_11 : decode cX13_hasNext 11 = .ok (.invokevirtual 23, 3) := dk_182 0 23 (dk_at dksX13_hasNext_0 11 rfl rfl)
theorem dX13_hasNext_14 : decode cX13_hasNext 14 = .ok (.if_icmp .ge 7, 3) := dk_162 0 7 (dk_at dksX13_hasNext_0 14 rfl rfl)
theorem dX13_hasNext_17 : decode cX13_hasNext 17 = .ok (.iconst 1, 1) := dk_4 (dk_at dksX13_hasNext_0 17 rfl rfl)
theorem dX13_hasNext_18 : decode cX13_hasNext 18 = .ok (.goto 4, 3) := dk_167 0 4 (dk_at dksX13_hasNext_0 18 rfl rfl)
theorem dX13_hasNext_21 : decode cX13_hasNext 21 = .ok (.iconst 0, 1) := dk_3 (dk_at dksX13_hasNext_0 21 rfl rfl)
theorem dX13_hasNext_22 : decode cX13_hasNext 22 = .ok (.ireturn, 1) := dk_172 (dk_at dksX13_hasNext_0 22 rfl rfl)
abbrev cX13_next : ByteArray := prog_16_method_4_code
def yX13_next : MethodName := ⟨RX13, "next", "()Ljava/lang/Object;"⟩
theorem dX13_next_0 : decode cX13_next 0 = .ok (.aload_n 0, 1) := by decide +kernel
theorem dX13_next_1 : decode cX13_next 1 = .ok (.invokevirtual 35, 3) := by decide +kernel
theorem dX13_next_4 : decode cX13_next 4 = .ok (.areturn, 1) := by decide +kernel
abbrev cX13_next_2 : ByteArray := prog_16_method_3_code
def yX13_next_2 : MethodName := ⟨RX13, "next", "()LCurtainRiggers$Numbered;"⟩
def dkwX13_next_2_1 : List UInt8 := [182, 0, 29, 192, 0, 33, 176]
abbrev dktX13_next_2_1 : List UInt8 := dkwX13_next_2_1 ++ []
def dkwX13_next_2_0 : List UInt8 := [42, 89, 180, 0, 13, 4, 96, 181, 0, 13, 42, 180, 0, 1, 180, 0, 17, 42, 180, 0, 13, 4, 100]
abbrev dktX13_next_2_0 : List UInt8 := dkwX13_next_2_0 ++ dktX13_next_2_1
theorem dksX13_next_2_0 : cX13_next_2.data.toList.drop 0 = dktX13_next_2_0 := by decide +kernel
theorem dksX13_next_2_1 : cX13_next_2.data.toList.drop 23 = dktX13_next_2_1 := dk_seg dksX13_next_2_0 23 rfl rfl
theorem dX13_next_2_0 : decode cX13_next_2 0 = .ok (.aload_n 0, 1) := dk_42 (dk_at dksX13_next_2_0 0 rfl rfl)
theorem dX13_next_2_1 : decode cX13_next_2 1 = .ok (.dup, 1) := dk_89 (dk_at dksX13_next_2_0 1 rfl rfl)
theorem dX13_next_2_2 : decode cX13_next_2 2 = .ok (.getfield 13, 3) := dk_180 0 13 (dk_at dksX13_next_2_0 2 rfl rfl)
theorem dX13_next_2_5 : decode cX13_next_2 5 = .ok (.iconst 1, 1) := dk_4 (dk_at dksX13_next_2_0 5 rfl rfl)
theorem dX13_next_2_6 : decode cX13_next_2 6 = .ok (.iadd, 1) := dk_96 (dk_at dksX13_next_2_0 6 rfl rfl)
theorem dX13_next_2_7 : decode cX13_next_2 7 = .ok (.putfield 13, 3) := dk_181 0 13 (dk_at dksX13_next_2_0 7 rfl rfl)
theorem dX13_next_2_10 : decode cX13_next_2 10 = .ok (.aload_n 0, 1) := dk_42 (dk_at dksX13_next_2_0 10 rfl rfl)
theorem dX13_next_2_11 : decode cX13_next_2 11 = .ok (.getfield 1, 3) := dk_180 0 1 (dk_at dksX13_next_2_0 11 rfl rfl)
theorem dX13_next_2_14 : decode cX13_next_2 14 = .ok (.getfield 17, 3) := dk_180 0 17 (dk_at dksX13_next_2_0 14 rfl rfl)
theorem dX13_next_2_17 : decode cX13_next_2 17 = .ok (.aload_n 0, 1) := dk_42 (dk_at dksX13_next_2_0 17 rfl rfl)
theorem dX13_next_2_18 : decode cX13_next_2 18 = .ok (.getfield 13, 3) := dk_180 0 13 (dk_at dksX13_next_2_0 18 rfl rfl)
theorem dX13_next_2_21 : decode cX13_next_2 21 = .ok (.iconst 1, 1) := dk_4 (dk_at dksX13_next_2_0 21 rfl rfl)
theorem dX13_next_2_22 : decode cX13_next_2 22 = .ok (.isub, 1) := dk_100 (dk_at dksX13_next_2_0 22 rfl rfl)
theorem dX13_next_2_23 : decode cX13_next_2 23 = .ok (.invokevirtual 29, 3) := dk_182 0 29 (dk_at dksX13_next_2_1 0 rfl rfl)
theorem dX13_next_2_26 : decode cX13_next_2 26 = .ok (.checkcast 33, 3) := dk_192 0 33 (dk_at dksX13_next_2_1 3 rfl rfl)
theorem dX13_next_2_29 : decode cX13_next_2 29 = .ok (.areturn, 1) := dk_176 (dk_at dksX13_next_2_1 6 rfl rfl)
abbrev cX13_init : ByteArray := prog_16_method_1_code
def yX13_init : MethodName := ⟨RX13, "<init>", "(LCurtainRiggers$Row;)V"⟩
def dkwX13_init_0 : List UInt8 := [42, 43, 181, 0, 1, 42, 183, 0, 7, 177]
abbrev dktX13_init_0 : List UInt8 := dkwX13_init_0 ++ []
theorem dksX13_init_0 : cX13_init.data.toList.drop 0 = dktX13_init_0 := by decide +kernel
theorem dX13_init_0 : decode cX13_init 0 = .ok (.aload_n 0, 1) := dk_42 (dk_at dksX13_init_0 0 rfl rfl)
theorem dX13_init_1 : decode cX13_init 1 = .ok (.aload_n 1, 1) := dk_43 (dk_at dksX13_init_0 1 rfl rfl)
theorem dX13_init_2 : decode cX13_init 2 = .ok (.putfield 1, 3) := dk_181 0 1 (dk_at dksX13_init_0 2 rfl rfl)
theorem dX13_init_5 : decode cX13_init 5 = .ok (.aload_n 0, 1) := dk_42 (dk_at dksX13_init_0 5 rfl rfl)
theorem dX13_init_6 : decode cX13_init 6 = .ok (.invokespecial 7, 3) := dk_183 0 7 (dk_at dksX13_init_0 6 rfl rfl)
theorem dX13_init_9 : decode cX13_init 9 = .ok (.return_, 1) := dk_177 (dk_at dksX13_init_0 9 rfl rfl)
theorem q105 : (Jvm.Cond.initialized "CurtainRiggers$Row$Steps") ∈ lw_all := lw_g (lw_at lw_m1 37 rfl) rfl
theorem q168 : (Jvm.Cond.fieldLinkNest "CurtainRiggers$Row$Steps" (17 : Nat) "CurtainRiggers$Row" "things" "Ljava/util/ArrayList;" "CurtainRiggers") ∈ lw_tbl := lw_at lw_m1 100 rfl
theorem q369 : (Jvm.Cond.castable "CurtainRiggers$Row$Steps" "java/util/Iterator") ∈ lw_tbl := lw_at lw_m2 61 rfl
theorem q370 : (Jvm.Cond.selects "CurtainRiggers$Row$Steps" ({ cls := "java/util/Iterator", name := "hasNext", desc := "()Z" } : Jvm.MethodName) ({ cls := "CurtainRiggers$Row$Steps", name := "hasNext", desc := "()Z" } : Jvm.MethodName)) ∈ lw_all := lw_g (lw_at lw_m2 62 rfl) rfl
theorem q371 : (Jvm.Cond.unhidden "CurtainRiggers$Row$Steps" "hasNext" "()Z") ∈ lw_tbl := lw_at lw_m2 63 rfl
theorem q372 : (Jvm.Cond.instanceMethod ({ cls := "CurtainRiggers$Row$Steps", name := "hasNext", desc := "()Z" } : Jvm.MethodName)) ∈ lw_all := lw_g (lw_at lw_m2 64 rfl) rfl
theorem q373 : (Jvm.Cond.publicMethod ({ cls := "CurtainRiggers$Row$Steps", name := "hasNext", desc := "()Z" } : Jvm.MethodName)) ∈ lw_tbl := lw_at lw_m2 65 rfl
theorem q374 : (Jvm.Cond.code ({ cls := "CurtainRiggers$Row$Steps", name := "hasNext", desc := "()Z" } : Jvm.MethodName) prog_16_method_2_code (1 : Nat) (Option.some Jvm.ClassFile.FieldType.boolean)) ∈ lw_all := lw_g (lw_at lw_m2 66 rfl) rfl
theorem q375 : (Jvm.Cond.methodLink "CurtainRiggers$Row$Steps" (23 : Nat) ({ cls := "java/util/ArrayList", name := "size", desc := "()I" } : Jvm.MethodName)) ∈ lw_all := lw_g (lw_at lw_m2 67 rfl) rfl
theorem q392 : (Jvm.Cond.selects "CurtainRiggers$Row$Steps" ({ cls := "java/util/Iterator", name := "next", desc := "()Ljava/lang/Object;" } : Jvm.MethodName) ({ cls := "CurtainRiggers$Row$Steps", name := "next", desc := "()Ljava/lang/Object;" } : Jvm.MethodName)) ∈ lw_all := lw_g (lw_at lw_m2 84 rfl) rfl
theorem q393 : (Jvm.Cond.unhidden "CurtainRiggers$Row$Steps" "next" "()Ljava/lang/Object;") ∈ lw_tbl := lw_at lw_m2 85 rfl
theorem q394 : (Jvm.Cond.instanceMethod ({ cls := "CurtainRiggers$Row$Steps", name := "next", desc := "()Ljava/lang/Object;" } : Jvm.MethodName)) ∈ lw_all := lw_g (lw_at lw_m2 86 rfl) rfl
theorem q395 : (Jvm.Cond.publicMethod ({ cls := "CurtainRiggers$Row$Steps", name := "next", desc := "()Ljava/lang/Object;" } : Jvm.MethodName)) ∈ lw_tbl := lw_at lw_m2 87 rfl
theorem q396 : (Jvm.Cond.code ({ cls := "CurtainRiggers$Row$Steps", name := "next", desc := "()Ljava/lang/Object;" } : Jvm.MethodName) prog_16_method_4_code (1 : Nat) (Option.some (Jvm.ClassFile.FieldType.object "java/lang/Object"))) ∈ lw_all := lw_g (lw_at lw_m2 88 rfl) rfl
theorem q397 : (Jvm.Cond.methodLink "CurtainRiggers$Row$Steps" (35 : Nat) ({ cls := "CurtainRiggers$Row$Steps", name := "next", desc := "()LCurtainRiggers$Numbered;" } : Jvm.MethodName)) ∈ lw_all := lw_g (lw_at lw_m2 89 rfl) rfl
theorem q398 : (Jvm.Cond.instanceMethod ({ cls := "CurtainRiggers$Row$Steps", name := "next", desc := "()LCurtainRiggers$Numbered;" } : Jvm.MethodName)) ∈ lw_all := lw_g (lw_at lw_m2 90 rfl) rfl
theorem q399 : (Jvm.Cond.selects "CurtainRiggers$Row$Steps" ({ cls := "CurtainRiggers$Row$Steps", name := "next", desc := "()LCurtainRiggers$Numbered;" } : Jvm.MethodName) ({ cls := "CurtainRiggers$Row$Steps", name := "next", desc := "()LCurtainRiggers$Numbered;" } : Jvm.MethodName)) ∈ lw_all := lw_g (lw_at lw_m2 91 rfl) rfl
theorem q400 : (Jvm.Cond.code ({ cls := "CurtainRiggers$Row$Steps", name := "next", desc := "()LCurtainRiggers$Numbered;" } : Jvm.MethodName) prog_16_method_3_code (1 : Nat) (Option.some (Jvm.ClassFile.FieldType.object "CurtainRiggers$Numbered"))) ∈ lw_all := lw_g (lw_at lw_m2 92 rfl) rfl
theorem q401 : (Jvm.Cond.methodLink "CurtainRiggers$Row$Steps" (29 : Nat) ({ cls := "java/util/ArrayList", name := "get", desc := "(I)Ljava/lang/Object;" } : Jvm.MethodName)) ∈ lw_all := lw_g (lw_at lw_m2 93 rfl) rfl
theorem q415 : (Jvm.Cond.classLink "CurtainRiggers$Row$Steps" (33 : Nat) "CurtainRiggers$Numbered") ∈ lw_all := lw_g (lw_at lw_m2 107 rfl) rfl
theorem q688 : (Jvm.Cond.selects "CurtainRiggers$Row$Steps" ({ cls := "java/lang/Object", name := "getClass", desc := "()Ljava/lang/Class;" } : Jvm.MethodName) ({ cls := "java/lang/Object", name := "getClass", desc := "()Ljava/lang/Class;" } : Jvm.MethodName)) ∈ lw_all := lw_g (lw_at lw_m3 140 rfl) rfl
theorem q748 : (Jvm.Cond.instantiable "CurtainRiggers$Row$Steps" (2 : Nat)) ∈ lw_all := lw_g (lw_at lw_m3 200 rfl) rfl
theorem q750 : (Jvm.Cond.instanceMethod ({ cls := "CurtainRiggers$Row$Steps", name := "<init>", desc := "(LCurtainRiggers$Row;)V" } : Jvm.MethodName)) ∈ lw_all := lw_g (lw_at lw_m3 202 rfl) rfl
theorem q751 : (Jvm.Cond.code ({ cls := "CurtainRiggers$Row$Steps", name := "<init>", desc := "(LCurtainRiggers$Row;)V" } : Jvm.MethodName) prog_16_method_1_code (2 : Nat) (Option.none : Option Jvm.ClassFile.FieldType)) ∈ lw_all := lw_g (lw_at lw_m3 203 rfl) rfl
theorem q752 : (Jvm.Cond.methodLink "CurtainRiggers$Row$Steps" (7 : Nat) ({ cls := "java/lang/Object", name := "<init>", desc := "()V" } : Jvm.MethodName)) ∈ lw_all := lw_g (lw_at lw_m3 204 rfl) rfl
theorem q753 : (Jvm.Cond.fieldLink "CurtainRiggers$Row$Steps" (13 : Nat) "CurtainRiggers$Row$Steps" "next" "I") ∈ lw_all := lw_g (lw_at lw_m3 205 rfl) rfl
theorem q754 : (Jvm.Cond.fieldLink "CurtainRiggers$Row$Steps" (1 : Nat) "CurtainRiggers$Row$Steps" "this$0" "LCurtainRiggers$Row;") ∈ lw_all := lw_g (lw_at lw_m3 206 rfl) rfl
theorem q755 : (Jvm.Cond.lays "CurtainRiggers$Row$Steps" "CurtainRiggers$Row$Steps" "next" "I") ∈ lw_all := lw_g (lw_at lw_m3 207 rfl) rfl
theorem q756 : (Jvm.Cond.soleField "CurtainRiggers$Row$Steps" "next") ∈ lw_all := lw_g (lw_at lw_m3 208 rfl) rfl
theorem q757 : (Jvm.Cond.laysFinal "CurtainRiggers$Row$Steps" "CurtainRiggers$Row$Steps" "this$0" "LCurtainRiggers$Row;") ∈ lw_all := lw_g (lw_at lw_m3 209 rfl) rfl
theorem q758 : (Jvm.Cond.soleField "CurtainRiggers$Row$Steps" "this$0") ∈ lw_all := lw_g (lw_at lw_m3 210 rfl) rfl
theorem q759 : (Jvm.Cond.superclass "CurtainRiggers$Row$Steps" "java/lang/Object") ∈ lw_all := lw_g (lw_at lw_m3 211 rfl) rfl
theorem q2721 : (Jvm.Cond.castable "CurtainRiggers$Row$Steps" "java/lang/Object") ∈ lw_tbl := lw_at lw_m12 13 rfl
theorem in_X13 : ∀ w ∈ wsX130, w ∈ lw_all := lw_in wsX130 [755, 757] (by decide +kernel) (by decide +kernel)

/-! CurtainRiggers$ByLight -/
set_option maxRecDepth 100000
def RX14 : String := "CurtainRiggers$ByLight"
abbrev cX14_init : ByteArray := prog_5_method_1_code
def yX14_init : MethodName := ⟨RX14, "<init>", "()V"⟩
theorem dX14_init_0 : decode cX14_init 0 = .ok (.aload_n 0, 1) := by decide +kernel
theorem dX14_init_1 : decode cX14_init 1 = .ok (.invokespecial 1, 3) := by decide +kernel
theorem dX14_init_4 : decode cX14_init 4 = .ok (.return_, 1) := by decide +kernel
abbrev cX14_isAhead : ByteArray := prog_5_method_2_code
def yX14_isAhead : MethodName := ⟨RX14, "isAhead", "(LCurtainRiggers$Cue;LCurtainRiggers$Cue;)Z"⟩
def dkwX14_isAhead_0 : List UInt8 := [43, 44, 182, 0, 7, 172]
abbrev dktX14_isAhead_0 : List UInt8 := dkwX14_isAhead_0 ++ []
theorem dksX14_isAhead_0 : cX14_isAhead.data.toList.drop 0 = dktX14_isAhead_0 := by decide +kernel
theorem dX14_isAhead_0 : decode cX14_isAhead 0 = .ok (.aload_n 1, 1) := dk_43 (dk_at dksX14_isAhead_0 0 rfl rfl)
theorem dX14_isAhead_1 : decode cX14_isAhead 1 = .ok (.aload_n 2, 1) := dk_44 (dk_at dksX14_isAhead_0 1 rfl rfl)
theorem dX14_isAhead_2 : decode cX14_isAhead 2 = .ok (.invokevirtual 7, 3) := dk_182 0 7 (dk_at dksX14_isAhead_0 2 rfl rfl)
theorem dX14_isAhead_5 : decode cX14_isAhead 5 = .ok (.ireturn, 1) := dk_172 (dk_at dksX14_isAhead_0 5 rfl rfl)
abbrev cX14_isAhead_2 : ByteArray := prog_5_method_3_code
def yX14_isAhead_2 : MethodName := ⟨RX14, "isAhead", "(Ljava/lang/Object;Ljava/lang/Object;)Z"⟩
def dkwX14_isAhead_2_0 : List UInt8 := [42, 43, 192, 0, 8, 44, 192, 0, 8, 182, 0, 13, 172]
abbrev dktX14_isAhead_2_0 : List UInt8 := dkwX14_isAhead_2_0 ++ []
theorem dksX14_isAhead_2_0 : cX14_isAhead_2.data.toList.drop 0 = dktX14_isAhead_2_0 := by decide +kernel
theorem dX14_isAhead_2_0 : decode cX14_isAhead_2 0 = .ok (.aload_n 0, 1) := dk_42 (dk_at dksX14_isAhead_2_0 0 rfl rfl)
theorem dX14_isAhead_2_1 : decode cX14_isAhead_2 1 = .ok (.aload_n 1, 1) := dk_43 (dk_at dksX14_isAhead_2_0 1 rfl rfl)
theorem dX14_isAhead_2_2 : decode cX14_isAhead_2 2 = .ok (.checkcast 8, 3) := dk_192 0 8 (dk_at dksX14_isAhead_2_0 2 rfl rfl)
theorem dX14_isAhead_2_5 : decode cX14_isAhead_2 5 = .ok (.aload_n 2, 1) := dk_44 (dk_at dksX14_isAhead_2_0 5 rfl rfl)
theorem dX14_isAhead_2_6 : decode cX14_isAhead_2 6 = .ok (.checkcast 8, 3) := dk_192 0 8 (dk_at dksX14_isAhead_2_0 6 rfl rfl)
theorem dX14_isAhead_2_9 : decode cX14_isAhead_2 9 = .ok (.invokevirtual 13, 3) := dk_182 0 13 (dk_at dksX14_isAhead_2_0 9 rfl rfl)
theorem dX14_isAhead_2_12 : decode cX14_isAhead_2 12 = .ok (.ireturn, 1) := dk_172 (dk_at dksX14_isAhead_2_0 12 rfl rfl)
theorem q107 : (Jvm.Cond.initialized "CurtainRiggers$ByLight") ∈ lw_all := lw_g (lw_at lw_m1 39 rfl) rfl
theorem q680 : (Jvm.Cond.selects "CurtainRiggers$ByLight" ({ cls := "java/lang/Object", name := "getClass", desc := "()Ljava/lang/Class;" } : Jvm.MethodName) ({ cls := "java/lang/Object", name := "getClass", desc := "()Ljava/lang/Class;" } : Jvm.MethodName)) ∈ lw_all := lw_g (lw_at lw_m3 132 rfl) rfl
theorem q735 : (Jvm.Cond.instantiable "CurtainRiggers$ByLight" (0 : Nat)) ∈ lw_all := lw_g (lw_at lw_m3 187 rfl) rfl
theorem q737 : (Jvm.Cond.instanceMethod ({ cls := "CurtainRiggers$ByLight", name := "<init>", desc := "()V" } : Jvm.MethodName)) ∈ lw_all := lw_g (lw_at lw_m3 189 rfl) rfl
theorem q738 : (Jvm.Cond.code ({ cls := "CurtainRiggers$ByLight", name := "<init>", desc := "()V" } : Jvm.MethodName) prog_5_method_1_code (1 : Nat) (Option.none : Option Jvm.ClassFile.FieldType)) ∈ lw_all := lw_g (lw_at lw_m3 190 rfl) rfl
theorem q739 : (Jvm.Cond.methodLink "CurtainRiggers$ByLight" (1 : Nat) ({ cls := "java/lang/Object", name := "<init>", desc := "()V" } : Jvm.MethodName)) ∈ lw_all := lw_g (lw_at lw_m3 191 rfl) rfl
theorem q740 : (Jvm.Cond.superclass "CurtainRiggers$ByLight" "java/lang/Object") ∈ lw_all := lw_g (lw_at lw_m3 192 rfl) rfl
theorem q768 : (Jvm.Cond.instanceMethod ({ cls := "CurtainRiggers$ByLight", name := "isAhead", desc := "(LCurtainRiggers$Cue;LCurtainRiggers$Cue;)Z" } : Jvm.MethodName)) ∈ lw_all := lw_g (lw_at lw_m3 220 rfl) rfl
theorem q769 : (Jvm.Cond.selects "CurtainRiggers$ByLight" ({ cls := "CurtainRiggers$ByLight", name := "isAhead", desc := "(LCurtainRiggers$Cue;LCurtainRiggers$Cue;)Z" } : Jvm.MethodName) ({ cls := "CurtainRiggers$ByLight", name := "isAhead", desc := "(LCurtainRiggers$Cue;LCurtainRiggers$Cue;)Z" } : Jvm.MethodName)) ∈ lw_all := lw_g (lw_at lw_m3 221 rfl) rfl
theorem q770 : (Jvm.Cond.code ({ cls := "CurtainRiggers$ByLight", name := "isAhead", desc := "(LCurtainRiggers$Cue;LCurtainRiggers$Cue;)Z" } : Jvm.MethodName) prog_5_method_2_code (3 : Nat) (Option.some Jvm.ClassFile.FieldType.boolean)) ∈ lw_all := lw_g (lw_at lw_m3 222 rfl) rfl
theorem q1133 : (Jvm.Cond.castable "CurtainRiggers$ByLight" "CurtainRiggers$Order") ∈ lw_tbl := lw_at lw_m5 105 rfl
theorem q1134 : (Jvm.Cond.selects "CurtainRiggers$ByLight" ({ cls := "CurtainRiggers$Order", name := "isAhead", desc := "(Ljava/lang/Object;Ljava/lang/Object;)Z" } : Jvm.MethodName) ({ cls := "CurtainRiggers$ByLight", name := "isAhead", desc := "(Ljava/lang/Object;Ljava/lang/Object;)Z" } : Jvm.MethodName)) ∈ lw_all := lw_g (lw_at lw_m5 106 rfl) rfl
theorem q1135 : (Jvm.Cond.unhidden "CurtainRiggers$ByLight" "isAhead" "(Ljava/lang/Object;Ljava/lang/Object;)Z") ∈ lw_tbl := lw_at lw_m5 107 rfl
theorem q1136 : (Jvm.Cond.instanceMethod ({ cls := "CurtainRiggers$ByLight", name := "isAhead", desc := "(Ljava/lang/Object;Ljava/lang/Object;)Z" } : Jvm.MethodName)) ∈ lw_all := lw_g (lw_at lw_m5 108 rfl) rfl
theorem q1137 : (Jvm.Cond.publicMethod ({ cls := "CurtainRiggers$ByLight", name := "isAhead", desc := "(Ljava/lang/Object;Ljava/lang/Object;)Z" } : Jvm.MethodName)) ∈ lw_tbl := lw_at lw_m5 109 rfl
theorem q1138 : (Jvm.Cond.code ({ cls := "CurtainRiggers$ByLight", name := "isAhead", desc := "(Ljava/lang/Object;Ljava/lang/Object;)Z" } : Jvm.MethodName) prog_5_method_3_code (3 : Nat) (Option.some Jvm.ClassFile.FieldType.boolean)) ∈ lw_all := lw_g (lw_at lw_m5 110 rfl) rfl
theorem q1139 : (Jvm.Cond.classLink "CurtainRiggers$ByLight" (8 : Nat) "CurtainRiggers$Cue") ∈ lw_all := lw_g (lw_at lw_m5 111 rfl) rfl
theorem q1140 : (Jvm.Cond.methodLink "CurtainRiggers$ByLight" (13 : Nat) ({ cls := "CurtainRiggers$ByLight", name := "isAhead", desc := "(LCurtainRiggers$Cue;LCurtainRiggers$Cue;)Z" } : Jvm.MethodName)) ∈ lw_all := lw_g (lw_at lw_m5 112 rfl) rfl
theorem q2723 : (Jvm.Cond.castable "CurtainRiggers$ByLight" "java/lang/Object") ∈ lw_tbl := lw_at lw_m12 15 rfl

/-! CurtainRiggers$Order -/
set_option maxRecDepth 100000
def RX15 : String := "CurtainRiggers$Order"
abbrev cX15_first : ByteArray := prog_12_method_2_code
def yX15_first : MethodName := ⟨RX15, "first", "(Ljava/lang/Iterable;LCurtainRiggers$Order;)Ljava/lang/Object;"⟩
def dkwX15_first_2 : List UInt8 := [77, 167, 255, 216, 44, 176]
abbrev dktX15_first_2 : List UInt8 := dkwX15_first_2 ++ []
def dkwX15_first_1 : List UInt8 := [58, 4, 44, 198, 0, 15, 43, 25, 4, 44, 185, 0, 17, 3, 0, 153, 0, 8, 25, 4, 167, 0, 4, 44]
abbrev dktX15_first_1 : List UInt8 := dkwX15_first_1 ++ dktX15_first_2
def dkwX15_first_0 : List UInt8 := [1, 77, 42, 185, 0, 1, 1, 0, 78, 45, 185, 0, 7, 1, 0, 153, 0, 37, 45, 185, 0, 13, 1, 0]
abbrev dktX15_first_0 : List UInt8 := dkwX15_first_0 ++ dktX15_first_1
theorem dksX15_first_0 : cX15_first.data.toList.drop 0 = dktX15_first_0 := by decide +kernel
theorem dksX15_first_1 : cX15_first.data.toList.drop 24 = dktX15_first_1 := dk_seg dksX15_first_0 24 rfl rfl
theorem dksX15_first_2 : cX15_first.data.toList.drop 48 = dktX15_first_2 := dk_seg dksX15_first_1 24 rfl rfl
theorem dX15_first_0 : decode cX15_first 0 = .ok (.aconst_null, 1) := dk_1 (dk_at dksX15_first_0 0 rfl rfl)
theorem dX15_first_1 : decode cX15_first 1 = .ok (.astore_n 2, 1) := dk_77 (dk_at dksX15_first_0 1 rfl rfl)
theorem dX15_first_2 : decode cX15_first 2 = .ok (.aload_n 0, 1) := dk_42 (dk_at dksX15_first_0 2 rfl rfl)
theorem dX15_first_3 : decode cX15_first 3 = .ok (.invokeinterface 1 1, 5) := by decide +kernel
theorem dX15_first_8 : decode cX15_first 8 = .ok (.astore_n 3, 1) := dk_78 (dk_at dksX15_first_0 8 rfl rfl)
theorem dX15_first_9 : decode cX15_first 9 = .ok (.aload_n 3, 1) := dk_45 (dk_at dksX15_first_0 9 rfl rfl)
theorem dX15_first_10 : decode cX15_first 10 = .ok (.invokeinterface 7 1, 5) := by decide +kernel
theorem dX15_first_15 : decode cX15_first 15 = .ok (.ifCond .eq 37, 3) := dk_153 0 37 (dk_at dksX15_first_0 15 rfl rfl)
theorem dX15_first_18 : decode cX15_first 18 = .ok (.aload_n 3, 1) := dk_45 (dk_at dksX15_first_0 18 rfl rfl)
theorem dX15_first_19 : decode cX15_first 19 = .ok (.invokeinterface 13 1, 5) := by decide +kernel
theorem dX15_first_24 : decode cX15_first 24 = .ok (.astore 4, 2) := dk_58 4 (dk_at dksX15_first_1 0 rfl rfl)
theorem dX15_first_26 : decode cX15_first 26 = .ok (.aload_n 2, 1) := dk_44 (dk_at dksX15_first_1 2 rfl rfl)
theorem dX15_first_27 : decode cX15_first 27 = .ok (.ifnull 15, 3) := dk_198 0 15 (dk_at dksX15_first_1 3 rfl rfl)
theorem dX15_first_30 : decode cX15_first 30 = .ok (.aload_n 1, 1) := dk_43 (dk_at dksX15_first_1 6 rfl rfl)
theorem dX15_first_31 : decode cX15_first 31 = .ok (.aload 4, 2) := dk_25 4 (dk_at dksX15_first_1 7 rfl rfl)
theorem dX15_first_33 : decode cX15_first 33 = .ok (.aload_n 2, 1) := dk_44 (dk_at dksX15_first_1 9 rfl rfl)
theorem dX15_first_34 : decode cX15_first 34 = .ok (.invokeinterface 17 3, 5) := by decide +kernel
theorem dX15_first_39 : decode cX15_first 39 = .ok (.ifCond .eq 8, 3) := dk_153 0 8 (dk_at dksX15_first_1 15 rfl rfl)
theorem dX15_first_42 : decode cX15_first 42 = .ok (.aload 4, 2) := dk_25 4 (dk_at dksX15_first_1 18 rfl rfl)
theorem dX15_first_44 : decode cX15_first 44 = .ok (.goto 4, 3) := dk_167 0 4 (dk_at dksX15_first_1 20 rfl rfl)
theorem dX15_first_47 : decode cX15_first 47 = .ok (.aload_n 2, 1) := dk_44 (dk_at dksX15_first_1 23 rfl rfl)
theorem dX15_first_48 : decode cX15_first 48 = .ok (.astore_n 2, 1) := dk_77 (dk_at dksX15_first_2 0 rfl rfl)
theorem dX15_first_49 : decode cX15_first 49 = .ok (.goto (-40), 3) := dk_167 255 216 (dk_at dksX15_first_2 1 rfl rfl)
theorem dX15_first_52 : decode cX15_first 52 = .ok (.aload_n 2, 1) := dk_44 (dk_at dksX15_first_2 4 rfl rfl)
theorem dX15_first_53 : decode cX15_first 53 = .ok (.areturn, 1) := dk_176 (dk_at dksX15_first_2 5 rfl rfl)
theorem q108 : (Jvm.Cond.initialized "CurtainRiggers$Order") ∈ lw_all := lw_g (lw_at lw_m1 40 rfl) rfl
theorem q1055 : (Jvm.Cond.static ({ cls := "CurtainRiggers$Order", name := "first", desc := "(Ljava/lang/Iterable;LCurtainRiggers$Order;)Ljava/lang/Object;" } : Jvm.MethodName)) ∈ lw_all := lw_g (lw_at lw_m5 27 rfl) rfl
theorem q1056 : (Jvm.Cond.code ({ cls := "CurtainRiggers$Order", name := "first", desc := "(Ljava/lang/Iterable;LCurtainRiggers$Order;)Ljava/lang/Object;" } : Jvm.MethodName) prog_12_method_2_code (5 : Nat) (Option.some (Jvm.ClassFile.FieldType.object "java/lang/Object"))) ∈ lw_all := lw_g (lw_at lw_m5 28 rfl) rfl
theorem q1057 : (Jvm.Cond.interfaceEntry "CurtainRiggers$Order" (1 : Nat)) ∈ lw_tbl := lw_at lw_m5 29 rfl
theorem q1058 : (Jvm.Cond.methodLink "CurtainRiggers$Order" (1 : Nat) ({ cls := "java/lang/Iterable", name := "iterator", desc := "()Ljava/util/Iterator;" } : Jvm.MethodName)) ∈ lw_all := lw_g (lw_at lw_m5 30 rfl) rfl
theorem q1101 : (Jvm.Cond.interfaceEntry "CurtainRiggers$Order" (7 : Nat)) ∈ lw_tbl := lw_at lw_m5 73 rfl
theorem q1102 : (Jvm.Cond.methodLink "CurtainRiggers$Order" (7 : Nat) ({ cls := "java/util/Iterator", name := "hasNext", desc := "()Z" } : Jvm.MethodName)) ∈ lw_all := lw_g (lw_at lw_m5 74 rfl) rfl
theorem q1103 : (Jvm.Cond.interfaceEntry "CurtainRiggers$Order" (13 : Nat)) ∈ lw_tbl := lw_at lw_m5 75 rfl
theorem q1104 : (Jvm.Cond.methodLink "CurtainRiggers$Order" (13 : Nat) ({ cls := "java/util/Iterator", name := "next", desc := "()Ljava/lang/Object;" } : Jvm.MethodName)) ∈ lw_all := lw_g (lw_at lw_m5 76 rfl) rfl
theorem q1105 : (Jvm.Cond.interfaceEntry "CurtainRiggers$Order" (17 : Nat)) ∈ lw_tbl := lw_at lw_m5 77 rfl
theorem q1106 : (Jvm.Cond.methodLink "CurtainRiggers$Order" (17 : Nat) ({ cls := "CurtainRiggers$Order", name := "isAhead", desc := "(Ljava/lang/Object;Ljava/lang/Object;)Z" } : Jvm.MethodName)) ∈ lw_all := lw_g (lw_at lw_m5 78 rfl) rfl
theorem q1107 : (Jvm.Cond.interfaceMethod "CurtainRiggers$Order" "CurtainRiggers$Order" "isAhead" "(Ljava/lang/Object;Ljava/lang/Object;)Z") ∈ lw_tbl := lw_at lw_m5 79 rfl
theorem q1108 : (Jvm.Cond.declares ({ cls := "CurtainRiggers$Order", name := "isAhead", desc := "(Ljava/lang/Object;Ljava/lang/Object;)Z" } : Jvm.MethodName)) ∈ lw_tbl := lw_at lw_m5 80 rfl

/-! CurtainRiggers$ByBalance -/
set_option maxRecDepth 100000
def RX16 : String := "CurtainRiggers$ByBalance"
def TX16 : u_T := fun k => match k with
  | _ => ("CurtainRiggers$ByBalance", "curtain", "LCurtainRiggers$Curtain;", true)
def tyX16 : Nat → FieldType := fun k => match k with
  | _ => .object "CurtainRiggers$Curtain"
abbrev wsX160 : List Cond := u_ws RX16 TX16 1
theorem nmX16 : ∀ a, a < 1 → ∀ b, b < 1 → a ≠ b → (TX16 a).2.1 ≠ (TX16 b).2.1 := by decide +kernel
theorem tyX16_ok : ∀ k, k < 1 → parseFieldDescriptor (TX16 k).2.2.1 = some (tyX16 k) := by decide +kernel
abbrev cX16_isAhead : ByteArray := prog_4_method_4_code
def yX16_isAhead : MethodName := ⟨RX16, "isAhead", "(Ljava/lang/Object;Ljava/lang/Object;)Z"⟩
def dkwX16_isAhead_0 : List UInt8 := [42, 43, 192, 0, 20, 44, 192, 0, 20, 182, 0, 44, 172]
abbrev dktX16_isAhead_0 : List UInt8 := dkwX16_isAhead_0 ++ []
theorem dksX16_isAhead_0 : cX16_isAhead.data.toList.drop 0 = dktX16_isAhead_0 := by decide +kernel
theorem dX16_isAhead_0 : decode cX16_isAhead 0 = .ok (.aload_n 0, 1) := dk_42 (dk_at dksX16_isAhead_0 0 rfl rfl)
theorem dX16_isAhead_1 : decode cX16_isAhead 1 = .ok (.aload_n 1, 1) := dk_43 (dk_at dksX16_isAhead_0 1 rfl rfl)
theorem dX16_isAhead_2 : decode cX16_isAhead 2 = .ok (.checkcast 20, 3) := dk_192 0 20 (dk_at dksX16_isAhead_0 2 rfl rfl)
theorem dX16_isAhead_5 : decode cX16_isAhead 5 = .ok (.aload_n 2, 1) := dk_44 (dk_at dksX16_isAhead_0 5 rfl rfl)
theorem dX16_isAhead_6 : decode cX16_isAhead 6 = .ok (.checkcast 20, 3) := dk_192 0 20 (dk_at dksX16_isAhead_0 6 rfl rfl)
theorem dX16_isAhead_9 : decode cX16_isAhead 9 = .ok (.invokevirtual 44, 3) := dk_182 0 44 (dk_at dksX16_isAhead_0 9 rfl rfl)
theorem dX16_isAhead_12 : decode cX16_isAhead 12 = .ok (.ireturn, 1) := dk_172 (dk_at dksX16_isAhead_0 12 rfl rfl)
abbrev cX16_isAhead_2 : ByteArray := prog_4_method_3_code
def yX16_isAhead_2 : MethodName := ⟨RX16, "isAhead", "(LCurtainRiggers$Bar;LCurtainRiggers$Bar;)Z"⟩
def dkwX16_isAhead_2_2 : List UInt8 := [44, 180, 0, 37, 162, 0, 7, 4, 167, 0, 12, 3, 167, 0, 8, 43, 44, 182, 0, 40, 172]
abbrev dktX16_isAhead_2_2 : List UInt8 := dkwX16_isAhead_2_2 ++ []
def dkwX16_isAhead_2_1 : List UInt8 := [162, 0, 7, 4, 167, 0, 4, 3, 172, 43, 180, 0, 37, 44, 180, 0, 37, 159, 0, 22, 43, 180, 0, 37]
abbrev dktX16_isAhead_2_1 : List UInt8 := dkwX16_isAhead_2_1 ++ dktX16_isAhead_2_2
def dkwX16_isAhead_2_0 : List UInt8 := [42, 43, 182, 0, 34, 42, 44, 182, 0, 34, 159, 0, 22, 42, 43, 182, 0, 34, 42, 44, 182, 0, 34]
abbrev dktX16_isAhead_2_0 : List UInt8 := dkwX16_isAhead_2_0 ++ dktX16_isAhead_2_1
theorem dksX16_isAhead_2_0 : cX16_isAhead_2.data.toList.drop 0 = dktX16_isAhead_2_0 := by decide +kernel
theorem dksX16_isAhead_2_1 : cX16_isAhead_2.data.toList.drop 23 = dktX16_isAhead_2_1 := dk_seg dksX16_isAhead_2_0 23 rfl rfl
theorem dksX16_isAhead_2_2 : cX16_isAhead_2.data.toList.drop 47 = dktX16_isAhead_2_2 := dk_seg dksX16_isAhead_2_1 24 rfl rfl
theorem dX16_isAhead_2_0 : decode cX16_isAhead_2 0 = .ok (.aload_n 0, 1) := dk_42 (dk_at dksX16_isAhead_2_0 0 rfl rfl)
theorem dX16_isAhead_2_1 : decode cX16_isAhead_2 1 = .ok (.aload_n 1, 1) := dk_43 (dk_at dksX16_isAhead_2_0 1 rfl rfl)
theorem dX16_isAhead_2_2 : decode cX16_isAhead_2 2 = .ok (.invokevirtual 34, 3) := dk_182 0 34 (dk_at dksX16_isAhead_2_0 2 rfl rfl)
theorem dX16_isAhead_2_5 : decode cX16_isAhead_2 5 = .ok (.aload_n 0, 1) := dk_42 (dk_at dksX16_isAhead_2_0 5 rfl rfl)
theorem dX16_isAhead_2_6 : decode cX16_isAhead_2 6 = .ok (.aload_n 2, 1) := dk_44 (dk_at dksX16_isAhead_2_0 6 rfl rfl)
theorem dX16_isAhead_2_7 : decode cX16_isAhead_2 7 = .ok (.invokevirtual 34, 3) := dk_182 0 34 (dk_at dksX16_isAhead_2_0 7 rfl rfl)
theorem dX16_isAhead_2_10 : decode cX16_isAhead_2 10 = .ok (.if_icmp .eq 22, 3) := dk_159 0 22 (dk_at dksX16_isAhead_2_0 10 rfl rfl)
theorem dX16_isAhead_2_13 : decode cX16_isAhead_2 13 = .ok (.aload_n 0, 1) := dk_42 (dk_at dksX16_isAhead_2_0 13 rfl rfl)
theorem dX16_isAhead_2_14 : decode cX16_isAhead_2 14 = .ok (.aload_n 1, 1) := dk_43 (dk_at dksX16_isAhead_2_0 14 rfl rfl)
theorem dX16_isAhead_2_15 : decode cX16_isAhead_2 15 = .ok (.invokevirtual 34, 3) := dk_182 0 34 (dk_at dksX16_isAhead_2_0 15 rfl rfl)
theorem dX16_isAhead_2_18 : decode cX16_isAhead_2 18 = .ok (.aload_n 0, 1) := dk_42 (dk_at dksX16_isAhead_2_0 18 rfl rfl)
theorem dX16_isAhead_2_19 : decode cX16_isAhead_2 19 = .ok (.aload_n 2, 1) := dk_44 (dk_at dksX16_isAhead_2_0 19 rfl rfl)
theorem dX16_isAhead_2_20 : decode cX16_isAhead_2 20 = .ok (.invokevirtual 34, 3) := dk_182 0 34 (dk_at dksX16_isAhead_2_0 20 rfl rfl)
theorem dX16_isAhead_2_23 : decode cX16_isAhead_2 23 = .ok (.if_icmp .ge 7, 3) := dk_162 0 7 (dk_at dksX16_isAhead_2_1 0 rfl rfl)
theorem dX16_isAhead_2_26 : decode cX16_isAhead_2 26 = .ok (.iconst 1, 1) := dk_4 (dk_at dksX16_isAhead_2_1 3 rfl rfl)
theorem dX16_isAhead_2_27 : decode cX16_isAhead_2 27 = .ok (.goto 4, 3) := dk_167 0 4 (dk_at dksX16_isAhead_2_1 4 rfl rfl)
theorem dX16_isAhead_2_30 : decode cX16_isAhead_2 30 = .ok (.iconst 0, 1) := dk_3 (dk_at dksX16_isAhead_2_1 7 rfl rfl)
theorem dX16_isAhead_2_31 : decode cX16_isAhead_2 31 = .ok (.ireturn, 1) := dk_172 (dk_at dksX16_isAhead_2_1 8 rfl rfl)
theorem dX16_isAhead_2_32 : decode cX16_isAhead_2 32 = .ok (.aload_n 1, 1) := dk_43 (dk_at dksX16_isAhead_2_1 9 rfl rfl)
theorem dX16_isAhead_2_33 : decode cX16_isAhead_2 33 = .ok (.getfield 37, 3) := dk_180 0 37 (dk_at dksX16_isAhead_2_1 10 rfl rfl)
theorem dX16_isAhead_2_36 : decode cX16_isAhead_2 36 = .ok (.aload_n 2, 1) := dk_44 (dk_at dksX16_isAhead_2_1 13 rfl rfl)
theorem dX16_isAhead_2_37 : decode cX16_isAhead_2 37 = .ok (.getfield 37, 3) := dk_180 0 37 (dk_at dksX16_isAhead_2_1 14 rfl rfl)
theorem dX16_isAhead_2_40 : decode cX16_isAhead_2 40 = .ok (.if_icmp .eq 22, 3) := dk_159 0 22 (dk_at dksX16_isAhead_2_1 17 rfl rfl)
theorem dX16_isAhead_2_43 : decode cX16_isAhead_2 43 = .ok (.aload_n 1, 1) := dk_43 (dk_at dksX16_isAhead_2_1 20 rfl rfl)
theorem dX16_isAhead_2_44 : decode cX16_isAhead_2 44 = .ok (.getfield 37, 3) := dk_180 0 37 (dk_at dksX16_isAhead_2_1 21 rfl rfl)
theorem dX16_isAhead_2_47 : decode cX16_isAhead_2 47 = .ok (.aload_n 2, 1) := dk_44 (dk_at dksX16_isAhead_2_2 0 rfl rfl)
theorem dX16_isAhead_2_48 : decode cX16_isAhead_2 48 = .ok (.getfield 37, 3) := dk_180 0 37 (dk_at dksX16_isAhead_2_2 1 rfl rfl)
theorem dX16_isAhead_2_51 : decode cX16_isAhead_2 51 = .ok (.if_icmp .ge 7, 3) := dk_162 0 7 (dk_at dksX16_isAhead_2_2 4 rfl rfl)
theorem dX16_isAhead_2_54 : decode cX16_isAhead_2 54 = .ok (.iconst 1, 1) := dk_4 (dk_at dksX16_isAhead_2_2 7 rfl rfl)
theorem dX16_isAhead_2_55 : decode cX16_isAhead_2 55 = .ok (.goto 12, 3) := dk_167 0 12 (dk_at dksX16_isAhead_2_2 8 rfl rfl)
theorem dX16_isAhead_2_58 : decode cX16_isAhead_2 58 = .ok (.iconst 0, 1) := dk_3 (dk_at dksX16_isAhead_2_2 11 rfl rfl)
theorem dX16_isAhead_2_59 : decode cX16_isAhead_2 59 = .ok (.goto 8, 3) := dk_167 0 8 (dk_at dksX16_isAhead_2_2 12 rfl rfl)
theorem dX16_isAhead_2_62 : decode cX16_isAhead_2 62 = .ok (.aload_n 1, 1) := dk_43 (dk_at dksX16_isAhead_2_2 15 rfl rfl)
theorem dX16_isAhead_2_63 : decode cX16_isAhead_2 63 = .ok (.aload_n 2, 1) := dk_44 (dk_at dksX16_isAhead_2_2 16 rfl rfl)
theorem dX16_isAhead_2_64 : decode cX16_isAhead_2 64 = .ok (.invokevirtual 40, 3) := dk_182 0 40 (dk_at dksX16_isAhead_2_2 17 rfl rfl)
theorem dX16_isAhead_2_67 : decode cX16_isAhead_2 67 = .ok (.ireturn, 1) := dk_172 (dk_at dksX16_isAhead_2_2 20 rfl rfl)
abbrev cX16_outBy : ByteArray := prog_4_method_2_code
def yX16_outBy : MethodName := ⟨RX16, "outBy", "(LCurtainRiggers$Bar;)I"⟩
def dkwX16_outBy_1 : List UInt8 := [180, 0, 24, 43, 180, 0, 27, 182, 0, 30, 172]
abbrev dktX16_outBy_1 : List UInt8 := dkwX16_outBy_1 ++ []
def dkwX16_outBy_0 : List UInt8 := [43, 42, 180, 0, 7, 180, 0, 13, 43, 180, 0, 19, 160, 0, 7, 3, 167, 0, 10, 42, 180, 0, 7]
abbrev dktX16_outBy_0 : List UInt8 := dkwX16_outBy_0 ++ dktX16_outBy_1
theorem dksX16_outBy_0 : cX16_outBy.data.toList.drop 0 = dktX16_outBy_0 := by decide +kernel
theorem dksX16_outBy_1 : cX16_outBy.data.toList.drop 23 = dktX16_outBy_1 := dk_seg dksX16_outBy_0 23 rfl rfl
theorem dX16_outBy_0 : decode cX16_outBy 0 = .ok (.aload_n 1, 1) := dk_43 (dk_at dksX16_outBy_0 0 rfl rfl)
theorem dX16_outBy_1 : decode cX16_outBy 1 = .ok (.aload_n 0, 1) := dk_42 (dk_at dksX16_outBy_0 1 rfl rfl)
theorem dX16_outBy_2 : decode cX16_outBy 2 = .ok (.getfield 7, 3) := dk_180 0 7 (dk_at dksX16_outBy_0 2 rfl rfl)
theorem dX16_outBy_5 : decode cX16_outBy 5 = .ok (.getfield 13, 3) := dk_180 0 13 (dk_at dksX16_outBy_0 5 rfl rfl)
theorem dX16_outBy_8 : decode cX16_outBy 8 = .ok (.aload_n 1, 1) := dk_43 (dk_at dksX16_outBy_0 8 rfl rfl)
theorem dX16_outBy_9 : decode cX16_outBy 9 = .ok (.getfield 19, 3) := dk_180 0 19 (dk_at dksX16_outBy_0 9 rfl rfl)
theorem dX16_outBy_12 : decode cX16_outBy 12 = .ok (.if_icmp .ne 7, 3) := dk_160 0 7 (dk_at dksX16_outBy_0 12 rfl rfl)
theorem dX16_outBy_15 : decode cX16_outBy 15 = .ok (.iconst 0, 1) := dk_3 (dk_at dksX16_outBy_0 15 rfl rfl)
theorem dX16_outBy_16 : decode cX16_outBy 16 = .ok (.goto 10, 3) := dk_167 0 10 (dk_at dksX16_outBy_0 16 rfl rfl)
theorem dX16_outBy_19 : decode cX16_outBy 19 = .ok (.aload_n 0, 1) := dk_42 (dk_at dksX16_outBy_0 19 rfl rfl)
theorem dX16_outBy_20 : decode cX16_outBy 20 = .ok (.getfield 7, 3) := dk_180 0 7 (dk_at dksX16_outBy_0 20 rfl rfl)
theorem dX16_outBy_23 : decode cX16_outBy 23 = .ok (.getfield 24, 3) := dk_180 0 24 (dk_at dksX16_outBy_1 0 rfl rfl)
theorem dX16_outBy_26 : decode cX16_outBy 26 = .ok (.aload_n 1, 1) := dk_43 (dk_at dksX16_outBy_1 3 rfl rfl)
theorem dX16_outBy_27 : decode cX16_outBy 27 = .ok (.getfield 27, 3) := dk_180 0 27 (dk_at dksX16_outBy_1 4 rfl rfl)
theorem dX16_outBy_30 : decode cX16_outBy 30 = .ok (.invokevirtual 30, 3) := dk_182 0 30 (dk_at dksX16_outBy_1 7 rfl rfl)
theorem dX16_outBy_33 : decode cX16_outBy 33 = .ok (.ireturn, 1) := dk_172 (dk_at dksX16_outBy_1 10 rfl rfl)
abbrev cX16_init : ByteArray := prog_4_method_1_code
def yX16_init : MethodName := ⟨RX16, "<init>", "(LCurtainRiggers$Curtain;)V"⟩
def dkwX16_init_0 : List UInt8 := [42, 183, 0, 1, 42, 43, 181, 0, 7, 177]
abbrev dktX16_init_0 : List UInt8 := dkwX16_init_0 ++ []
theorem dksX16_init_0 : cX16_init.data.toList.drop 0 = dktX16_init_0 := by decide +kernel
theorem dX16_init_0 : decode cX16_init 0 = .ok (.aload_n 0, 1) := dk_42 (dk_at dksX16_init_0 0 rfl rfl)
theorem dX16_init_1 : decode cX16_init 1 = .ok (.invokespecial 1, 3) := dk_183 0 1 (dk_at dksX16_init_0 1 rfl rfl)
theorem dX16_init_4 : decode cX16_init 4 = .ok (.aload_n 0, 1) := dk_42 (dk_at dksX16_init_0 4 rfl rfl)
theorem dX16_init_5 : decode cX16_init 5 = .ok (.aload_n 1, 1) := dk_43 (dk_at dksX16_init_0 5 rfl rfl)
theorem dX16_init_6 : decode cX16_init 6 = .ok (.putfield 7, 3) := dk_181 0 7 (dk_at dksX16_init_0 6 rfl rfl)
theorem dX16_init_9 : decode cX16_init 9 = .ok (.return_, 1) := dk_177 (dk_at dksX16_init_0 9 rfl rfl)
theorem q112 : (Jvm.Cond.initialized "CurtainRiggers$ByBalance") ∈ lw_all := lw_g (lw_at lw_m1 44 rfl) rfl
theorem q530 : (Jvm.Cond.fieldLinkNest "CurtainRiggers$ByBalance" (19 : Nat) "CurtainRiggers$Bar" "number" "I" "CurtainRiggers") ∈ lw_tbl := lw_at lw_m2 222 rfl
theorem q543 : (Jvm.Cond.fieldLinkNest "CurtainRiggers$ByBalance" (27 : Nat) "CurtainRiggers$Bar" "weights" "I" "CurtainRiggers") ∈ lw_tbl := lw_at lw_m2 235 rfl
theorem q548 : (Jvm.Cond.fieldLinkNest "CurtainRiggers$ByBalance" (37 : Nat) "CurtainRiggers$Bar" "years" "I" "CurtainRiggers") ∈ lw_tbl := lw_at lw_m3 0 rfl
theorem q601 : (Jvm.Cond.fieldLinkNest "CurtainRiggers$ByBalance" (24 : Nat) "CurtainRiggers$Curtain" "weight" "I" "CurtainRiggers") ∈ lw_tbl := lw_at lw_m3 53 rfl
theorem q604 : (Jvm.Cond.fieldLinkNest "CurtainRiggers$ByBalance" (13 : Nat) "CurtainRiggers$Curtain" "bar" "I" "CurtainRiggers") ∈ lw_tbl := lw_at lw_m3 56 rfl
theorem q679 : (Jvm.Cond.selects "CurtainRiggers$ByBalance" ({ cls := "java/lang/Object", name := "getClass", desc := "()Ljava/lang/Class;" } : Jvm.MethodName) ({ cls := "java/lang/Object", name := "getClass", desc := "()Ljava/lang/Class;" } : Jvm.MethodName)) ∈ lw_all := lw_g (lw_at lw_m3 131 rfl) rfl
theorem q1109 : (Jvm.Cond.castable "CurtainRiggers$ByBalance" "CurtainRiggers$Order") ∈ lw_tbl := lw_at lw_m5 81 rfl
theorem q1110 : (Jvm.Cond.selects "CurtainRiggers$ByBalance" ({ cls := "CurtainRiggers$Order", name := "isAhead", desc := "(Ljava/lang/Object;Ljava/lang/Object;)Z" } : Jvm.MethodName) ({ cls := "CurtainRiggers$ByBalance", name := "isAhead", desc := "(Ljava/lang/Object;Ljava/lang/Object;)Z" } : Jvm.MethodName)) ∈ lw_all := lw_g (lw_at lw_m5 82 rfl) rfl
theorem q1111 : (Jvm.Cond.unhidden "CurtainRiggers$ByBalance" "isAhead" "(Ljava/lang/Object;Ljava/lang/Object;)Z") ∈ lw_tbl := lw_at lw_m5 83 rfl
theorem q1112 : (Jvm.Cond.instanceMethod ({ cls := "CurtainRiggers$ByBalance", name := "isAhead", desc := "(Ljava/lang/Object;Ljava/lang/Object;)Z" } : Jvm.MethodName)) ∈ lw_all := lw_g (lw_at lw_m5 84 rfl) rfl
theorem q1113 : (Jvm.Cond.publicMethod ({ cls := "CurtainRiggers$ByBalance", name := "isAhead", desc := "(Ljava/lang/Object;Ljava/lang/Object;)Z" } : Jvm.MethodName)) ∈ lw_tbl := lw_at lw_m5 85 rfl
theorem q1114 : (Jvm.Cond.code ({ cls := "CurtainRiggers$ByBalance", name := "isAhead", desc := "(Ljava/lang/Object;Ljava/lang/Object;)Z" } : Jvm.MethodName) prog_4_method_4_code (3 : Nat) (Option.some Jvm.ClassFile.FieldType.boolean)) ∈ lw_all := lw_g (lw_at lw_m5 86 rfl) rfl
theorem q1115 : (Jvm.Cond.classLink "CurtainRiggers$ByBalance" (20 : Nat) "CurtainRiggers$Bar") ∈ lw_all := lw_g (lw_at lw_m5 87 rfl) rfl
theorem q1116 : (Jvm.Cond.methodLink "CurtainRiggers$ByBalance" (44 : Nat) ({ cls := "CurtainRiggers$ByBalance", name := "isAhead", desc := "(LCurtainRiggers$Bar;LCurtainRiggers$Bar;)Z" } : Jvm.MethodName)) ∈ lw_all := lw_g (lw_at lw_m5 88 rfl) rfl
theorem q1117 : (Jvm.Cond.instanceMethod ({ cls := "CurtainRiggers$ByBalance", name := "isAhead", desc := "(LCurtainRiggers$Bar;LCurtainRiggers$Bar;)Z" } : Jvm.MethodName)) ∈ lw_all := lw_g (lw_at lw_m5 89 rfl) rfl
theorem q1118 : (Jvm.Cond.selects "CurtainRiggers$ByBalance" ({ cls := "CurtainRiggers$ByBalance", name := "isAhead", desc := "(LCurtainRiggers$Bar;LCurtainRiggers$Bar;)Z" } : Jvm.MethodName) ({ cls := "CurtainRiggers$ByBalance", name := "isAhead", desc := "(LCurtainRiggers$Bar;LCurtainRiggers$Bar;)Z" } : Jvm.MethodName)) ∈ lw_all := lw_g (lw_at lw_m5 90 rfl) rfl
theorem q1119 : (Jvm.Cond.code ({ cls := "CurtainRiggers$ByBalance", name := "isAhead", desc := "(LCurtainRiggers$Bar;LCurtainRiggers$Bar;)Z" } : Jvm.MethodName) prog_4_method_3_code (3 : Nat) (Option.some Jvm.ClassFile.FieldType.boolean)) ∈ lw_all := lw_g (lw_at lw_m5 91 rfl) rfl
theorem q1120 : (Jvm.Cond.methodLink "CurtainRiggers$ByBalance" (34 : Nat) ({ cls := "CurtainRiggers$ByBalance", name := "outBy", desc := "(LCurtainRiggers$Bar;)I" } : Jvm.MethodName)) ∈ lw_all := lw_g (lw_at lw_m5 92 rfl) rfl
theorem q1121 : (Jvm.Cond.privateMethod ({ cls := "CurtainRiggers$ByBalance", name := "outBy", desc := "(LCurtainRiggers$Bar;)I" } : Jvm.MethodName)) ∈ lw_tbl := lw_at lw_m5 93 rfl
theorem q1122 : (Jvm.Cond.instanceMethod ({ cls := "CurtainRiggers$ByBalance", name := "outBy", desc := "(LCurtainRiggers$Bar;)I" } : Jvm.MethodName)) ∈ lw_all := lw_g (lw_at lw_m5 94 rfl) rfl
theorem q1123 : (Jvm.Cond.instantiable "CurtainRiggers$ByBalance" (1 : Nat)) ∈ lw_all := lw_g (lw_at lw_m5 95 rfl) rfl
theorem q1124 : (Jvm.Cond.code ({ cls := "CurtainRiggers$ByBalance", name := "outBy", desc := "(LCurtainRiggers$Bar;)I" } : Jvm.MethodName) prog_4_method_2_code (2 : Nat) (Option.some Jvm.ClassFile.FieldType.int)) ∈ lw_all := lw_g (lw_at lw_m5 96 rfl) rfl
theorem q1125 : (Jvm.Cond.methodLink "CurtainRiggers$ByBalance" (30 : Nat) ({ cls := "CurtainRiggers$Bar", name := "outBy", desc := "(II)I" } : Jvm.MethodName)) ∈ lw_all := lw_g (lw_at lw_m5 97 rfl) rfl
theorem q1790 : (Jvm.Cond.instanceMethod ({ cls := "CurtainRiggers$ByBalance", name := "<init>", desc := "(LCurtainRiggers$Curtain;)V" } : Jvm.MethodName)) ∈ lw_all := lw_g (lw_at lw_m8 42 rfl) rfl
theorem q1791 : (Jvm.Cond.code ({ cls := "CurtainRiggers$ByBalance", name := "<init>", desc := "(LCurtainRiggers$Curtain;)V" } : Jvm.MethodName) prog_4_method_1_code (2 : Nat) (Option.none : Option Jvm.ClassFile.FieldType)) ∈ lw_all := lw_g (lw_at lw_m8 43 rfl) rfl
theorem q1792 : (Jvm.Cond.methodLink "CurtainRiggers$ByBalance" (1 : Nat) ({ cls := "java/lang/Object", name := "<init>", desc := "()V" } : Jvm.MethodName)) ∈ lw_all := lw_g (lw_at lw_m8 44 rfl) rfl
theorem q1793 : (Jvm.Cond.fieldLink "CurtainRiggers$ByBalance" (7 : Nat) "CurtainRiggers$ByBalance" "curtain" "LCurtainRiggers$Curtain;") ∈ lw_all := lw_g (lw_at lw_m8 45 rfl) rfl
theorem q1794 : (Jvm.Cond.laysFinal "CurtainRiggers$ByBalance" "CurtainRiggers$ByBalance" "curtain" "LCurtainRiggers$Curtain;") ∈ lw_all := lw_g (lw_at lw_m8 46 rfl) rfl
theorem q1795 : (Jvm.Cond.soleField "CurtainRiggers$ByBalance" "curtain") ∈ lw_all := lw_g (lw_at lw_m8 47 rfl) rfl
theorem q1796 : (Jvm.Cond.superclass "CurtainRiggers$ByBalance" "java/lang/Object") ∈ lw_all := lw_g (lw_at lw_m8 48 rfl) rfl
theorem q2730 : (Jvm.Cond.castable "CurtainRiggers$ByBalance" "java/lang/Object") ∈ lw_tbl := lw_at lw_m12 22 rfl
theorem in_X16 : ∀ w ∈ wsX160, w ∈ lw_all := lw_in wsX160 [1794] (by decide +kernel) (by decide +kernel)

/-! CurtainRiggers$Cue -/
set_option maxRecDepth 100000
def RX17 : String := "CurtainRiggers$Cue"
def TX17 : u_T := fun k => match k with
  | 0 => ("CurtainRiggers$Cue", "light", "I", true)
  | 1 => ("CurtainRiggers$Cue", "bar", "I", true)
  | 2 => ("CurtainRiggers$Cue", "height", "I", true)
  | _ => ("CurtainRiggers$Cue", "hush", "I", true)
def tyX17 : Nat → FieldType := fun k => match k with
  | 0 => .int
  | 1 => .int
  | 2 => .int
  | _ => .int
abbrev wsX170 : List Cond := u_ws RX17 TX17 4
theorem nmX17 : ∀ a, a < 4 → ∀ b, b < 4 → a ≠ b → (TX17 a).2.1 ≠ (TX17 b).2.1 := by decide +kernel
theorem tyX17_ok : ∀ k, k < 4 → parseFieldDescriptor (TX17 k).2.2.1 = some (tyX17 k) := by decide +kernel
abbrev cX17_copy : ByteArray := prog_7_method_4_code
def yX17_copy : MethodName := ⟨RX17, "copy", "()LCurtainRiggers$Numbered;"⟩
theorem dX17_copy_0 : decode cX17_copy 0 = .ok (.aload_n 0, 1) := by decide +kernel
theorem dX17_copy_1 : decode cX17_copy 1 = .ok (.invokevirtual 22, 3) := by decide +kernel
theorem dX17_copy_4 : decode cX17_copy 4 = .ok (.areturn, 1) := by decide +kernel
abbrev cX17_copy_2 : ByteArray := prog_7_method_3_code
def yX17_copy_2 : MethodName := ⟨RX17, "copy", "()LCurtainRiggers$Cue;"⟩
theorem dX17_copy_2_0 : decode cX17_copy_2 0 = .ok (.aload_n 0, 1) := by decide +kernel
theorem dX17_copy_2_1 : decode cX17_copy_2 1 = .ok (.areturn, 1) := by decide +kernel
abbrev cX17_number : ByteArray := prog_7_method_2_code
def yX17_number : MethodName := ⟨RX17, "number", "()I"⟩
theorem dX17_number_0 : decode cX17_number 0 = .ok (.aload_n 0, 1) := by decide +kernel
theorem dX17_number_1 : decode cX17_number 1 = .ok (.getfield 7, 3) := by decide +kernel
theorem dX17_number_4 : decode cX17_number 4 = .ok (.ireturn, 1) := by decide +kernel
abbrev cX17_init : ByteArray := prog_7_method_1_code
def yX17_init : MethodName := ⟨RX17, "<init>", "(IIII)V"⟩
def dkwX17_init_1 : List UInt8 := [181, 0, 19, 177]
abbrev dktX17_init_1 : List UInt8 := dkwX17_init_1 ++ []
def dkwX17_init_0 : List UInt8 := [42, 183, 0, 1, 42, 27, 181, 0, 7, 42, 28, 181, 0, 13, 42, 29, 181, 0, 16, 42, 21, 4]
abbrev dktX17_init_0 : List UInt8 := dkwX17_init_0 ++ dktX17_init_1
theorem dksX17_init_0 : cX17_init.data.toList.drop 0 = dktX17_init_0 := by decide +kernel
theorem dksX17_init_1 : cX17_init.data.toList.drop 22 = dktX17_init_1 := dk_seg dksX17_init_0 22 rfl rfl
theorem dX17_init_0 : decode cX17_init 0 = .ok (.aload_n 0, 1) := dk_42 (dk_at dksX17_init_0 0 rfl rfl)
theorem dX17_init_1 : decode cX17_init 1 = .ok (.invokespecial 1, 3) := dk_183 0 1 (dk_at dksX17_init_0 1 rfl rfl)
theorem dX17_init_4 : decode cX17_init 4 = .ok (.aload_n 0, 1) := dk_42 (dk_at dksX17_init_0 4 rfl rfl)
theorem dX17_init_5 : decode cX17_init 5 = .ok (.iload_n 1, 1) := dk_27 (dk_at dksX17_init_0 5 rfl rfl)
theorem dX17_init_6 : decode cX17_init 6 = .ok (.putfield 7, 3) := dk_181 0 7 (dk_at dksX17_init_0 6 rfl rfl)
theorem dX17_init_9 : decode cX17_init 9 = .ok (.aload_n 0, 1) := dk_42 (dk_at dksX17_init_0 9 rfl rfl)
theorem dX17_init_10 : decode cX17_init 10 = .ok (.iload_n 2, 1) := dk_28 (dk_at dksX17_init_0 10 rfl rfl)
theorem dX17_init_11 : decode cX17_init 11 = .ok (.putfield 13, 3) := dk_181 0 13 (dk_at dksX17_init_0 11 rfl rfl)
theorem dX17_init_14 : decode cX17_init 14 = .ok (.aload_n 0, 1) := dk_42 (dk_at dksX17_init_0 14 rfl rfl)
theorem dX17_init_15 : decode cX17_init 15 = .ok (.iload_n 3, 1) := dk_29 (dk_at dksX17_init_0 15 rfl rfl)
theorem dX17_init_16 : decode cX17_init 16 = .ok (.putfield 16, 3) := dk_181 0 16 (dk_at dksX17_init_0 16 rfl rfl)
theorem dX17_init_19 : decode cX17_init 19 = .ok (.aload_n 0, 1) := dk_42 (dk_at dksX17_init_0 19 rfl rfl)
theorem dX17_init_20 : decode cX17_init 20 = .ok (.iload 4, 2) := dk_21 4 (dk_at dksX17_init_0 20 rfl rfl)
theorem dX17_init_22 : decode cX17_init 22 = .ok (.putfield 19, 3) := dk_181 0 19 (dk_at dksX17_init_1 0 rfl rfl)
theorem dX17_init_25 : decode cX17_init 25 = .ok (.return_, 1) := dk_177 (dk_at dksX17_init_1 3 rfl rfl)
theorem q113 : (Jvm.Cond.initialized "CurtainRiggers$Cue") ∈ lw_all := lw_g (lw_at lw_m1 45 rfl) rfl
theorem q571 : (Jvm.Cond.castable "CurtainRiggers$Cue" "CurtainRiggers$Numbered") ∈ lw_tbl := lw_at lw_m3 23 rfl
theorem q572 : (Jvm.Cond.selects "CurtainRiggers$Cue" ({ cls := "CurtainRiggers$Numbered", name := "copy", desc := "()LCurtainRiggers$Numbered;" } : Jvm.MethodName) ({ cls := "CurtainRiggers$Cue", name := "copy", desc := "()LCurtainRiggers$Numbered;" } : Jvm.MethodName)) ∈ lw_all := lw_g (lw_at lw_m3 24 rfl) rfl
theorem q573 : (Jvm.Cond.unhidden "CurtainRiggers$Cue" "copy" "()LCurtainRiggers$Numbered;") ∈ lw_tbl := lw_at lw_m3 25 rfl
theorem q574 : (Jvm.Cond.instanceMethod ({ cls := "CurtainRiggers$Cue", name := "copy", desc := "()LCurtainRiggers$Numbered;" } : Jvm.MethodName)) ∈ lw_all := lw_g (lw_at lw_m3 26 rfl) rfl
theorem q575 : (Jvm.Cond.publicMethod ({ cls := "CurtainRiggers$Cue", name := "copy", desc := "()LCurtainRiggers$Numbered;" } : Jvm.MethodName)) ∈ lw_tbl := lw_at lw_m3 27 rfl
theorem q576 : (Jvm.Cond.code ({ cls := "CurtainRiggers$Cue", name := "copy", desc := "()LCurtainRiggers$Numbered;" } : Jvm.MethodName) prog_7_method_4_code (1 : Nat) (Option.some (Jvm.ClassFile.FieldType.object "CurtainRiggers$Numbered"))) ∈ lw_all := lw_g (lw_at lw_m3 28 rfl) rfl
theorem q577 : (Jvm.Cond.methodLink "CurtainRiggers$Cue" (22 : Nat) ({ cls := "CurtainRiggers$Cue", name := "copy", desc := "()LCurtainRiggers$Cue;" } : Jvm.MethodName)) ∈ lw_all := lw_g (lw_at lw_m3 29 rfl) rfl
theorem q578 : (Jvm.Cond.instanceMethod ({ cls := "CurtainRiggers$Cue", name := "copy", desc := "()LCurtainRiggers$Cue;" } : Jvm.MethodName)) ∈ lw_all := lw_g (lw_at lw_m3 30 rfl) rfl
theorem q579 : (Jvm.Cond.selects "CurtainRiggers$Cue" ({ cls := "CurtainRiggers$Cue", name := "copy", desc := "()LCurtainRiggers$Cue;" } : Jvm.MethodName) ({ cls := "CurtainRiggers$Cue", name := "copy", desc := "()LCurtainRiggers$Cue;" } : Jvm.MethodName)) ∈ lw_all := lw_g (lw_at lw_m3 31 rfl) rfl
theorem q580 : (Jvm.Cond.code ({ cls := "CurtainRiggers$Cue", name := "copy", desc := "()LCurtainRiggers$Cue;" } : Jvm.MethodName) prog_7_method_3_code (1 : Nat) (Option.some (Jvm.ClassFile.FieldType.object "CurtainRiggers$Cue"))) ∈ lw_all := lw_g (lw_at lw_m3 32 rfl) rfl
theorem q682 : (Jvm.Cond.selects "CurtainRiggers$Cue" ({ cls := "java/lang/Object", name := "getClass", desc := "()Ljava/lang/Class;" } : Jvm.MethodName) ({ cls := "java/lang/Object", name := "getClass", desc := "()Ljava/lang/Class;" } : Jvm.MethodName)) ∈ lw_all := lw_g (lw_at lw_m3 134 rfl) rfl
theorem q771 : (Jvm.Cond.superclass "CurtainRiggers$Cue" "java/lang/Object") ∈ lw_all := lw_g (lw_at lw_m3 223 rfl) rfl
theorem q773 : (Jvm.Cond.unhidden "CurtainRiggers$Cue" "isAheadByNumber" "(LCurtainRiggers$Numbered;)Z") ∈ lw_tbl := lw_at lw_m3 225 rfl
theorem q786 : (Jvm.Cond.selects "CurtainRiggers$Cue" ({ cls := "CurtainRiggers$Numbered", name := "number", desc := "()I" } : Jvm.MethodName) ({ cls := "CurtainRiggers$Cue", name := "number", desc := "()I" } : Jvm.MethodName)) ∈ lw_all := lw_g (lw_at lw_m3 238 rfl) rfl
theorem q787 : (Jvm.Cond.unhidden "CurtainRiggers$Cue" "number" "()I") ∈ lw_tbl := lw_at lw_m3 239 rfl
theorem q788 : (Jvm.Cond.instanceMethod ({ cls := "CurtainRiggers$Cue", name := "number", desc := "()I" } : Jvm.MethodName)) ∈ lw_all := lw_g (lw_at lw_m4 0 rfl) rfl
theorem q789 : (Jvm.Cond.publicMethod ({ cls := "CurtainRiggers$Cue", name := "number", desc := "()I" } : Jvm.MethodName)) ∈ lw_tbl := lw_at lw_m4 1 rfl
theorem q790 : (Jvm.Cond.code ({ cls := "CurtainRiggers$Cue", name := "number", desc := "()I" } : Jvm.MethodName) prog_7_method_2_code (1 : Nat) (Option.some Jvm.ClassFile.FieldType.int)) ∈ lw_all := lw_g (lw_at lw_m4 2 rfl) rfl
theorem q1896 : (Jvm.Cond.instantiable "CurtainRiggers$Cue" (4 : Nat)) ∈ lw_all := lw_g (lw_at lw_m8 148 rfl) rfl
theorem q1898 : (Jvm.Cond.instanceMethod ({ cls := "CurtainRiggers$Cue", name := "<init>", desc := "(IIII)V" } : Jvm.MethodName)) ∈ lw_all := lw_g (lw_at lw_m8 150 rfl) rfl
theorem q1899 : (Jvm.Cond.code ({ cls := "CurtainRiggers$Cue", name := "<init>", desc := "(IIII)V" } : Jvm.MethodName) prog_7_method_1_code (5 : Nat) (Option.none : Option Jvm.ClassFile.FieldType)) ∈ lw_all := lw_g (lw_at lw_m8 151 rfl) rfl
theorem q1900 : (Jvm.Cond.methodLink "CurtainRiggers$Cue" (1 : Nat) ({ cls := "java/lang/Object", name := "<init>", desc := "()V" } : Jvm.MethodName)) ∈ lw_all := lw_g (lw_at lw_m8 152 rfl) rfl
theorem q1901 : (Jvm.Cond.fieldLink "CurtainRiggers$Cue" (7 : Nat) "CurtainRiggers$Cue" "light" "I") ∈ lw_all := lw_g (lw_at lw_m8 153 rfl) rfl
theorem q1904 : (Jvm.Cond.fieldLink "CurtainRiggers$Cue" (13 : Nat) "CurtainRiggers$Cue" "bar" "I") ∈ lw_all := lw_g (lw_at lw_m8 156 rfl) rfl
theorem q1907 : (Jvm.Cond.fieldLink "CurtainRiggers$Cue" (16 : Nat) "CurtainRiggers$Cue" "height" "I") ∈ lw_all := lw_g (lw_at lw_m8 159 rfl) rfl
theorem q1910 : (Jvm.Cond.fieldLink "CurtainRiggers$Cue" (19 : Nat) "CurtainRiggers$Cue" "hush" "I") ∈ lw_all := lw_g (lw_at lw_m8 162 rfl) rfl
theorem q1913 : (Jvm.Cond.laysFinal "CurtainRiggers$Cue" "CurtainRiggers$Cue" "light" "I") ∈ lw_all := lw_g (lw_at lw_m8 165 rfl) rfl
theorem q1914 : (Jvm.Cond.soleField "CurtainRiggers$Cue" "light") ∈ lw_all := lw_g (lw_at lw_m8 166 rfl) rfl
theorem q1915 : (Jvm.Cond.laysFinal "CurtainRiggers$Cue" "CurtainRiggers$Cue" "bar" "I") ∈ lw_all := lw_g (lw_at lw_m8 167 rfl) rfl
theorem q1916 : (Jvm.Cond.soleField "CurtainRiggers$Cue" "bar") ∈ lw_all := lw_g (lw_at lw_m8 168 rfl) rfl
theorem q1917 : (Jvm.Cond.laysFinal "CurtainRiggers$Cue" "CurtainRiggers$Cue" "height" "I") ∈ lw_all := lw_g (lw_at lw_m8 169 rfl) rfl
theorem q1918 : (Jvm.Cond.soleField "CurtainRiggers$Cue" "height") ∈ lw_all := lw_g (lw_at lw_m8 170 rfl) rfl
theorem q1919 : (Jvm.Cond.laysFinal "CurtainRiggers$Cue" "CurtainRiggers$Cue" "hush" "I") ∈ lw_all := lw_g (lw_at lw_m8 171 rfl) rfl
theorem q1920 : (Jvm.Cond.soleField "CurtainRiggers$Cue" "hush") ∈ lw_all := lw_g (lw_at lw_m8 172 rfl) rfl
theorem q2731 : (Jvm.Cond.castable "CurtainRiggers$Cue" "java/lang/Object") ∈ lw_tbl := lw_at lw_m12 23 rfl
theorem in_X17 : ∀ w ∈ wsX170, w ∈ lw_all := lw_in wsX170 [1913, 1915, 1917, 1919] (by decide +kernel) (by decide +kernel)

/-! CurtainRiggers$BarMeasure -/
set_option maxRecDepth 100000
def RX18 : String := "CurtainRiggers$BarMeasure"
def TX18 : u_T := fun k => match k with
  | _ => ("CurtainRiggers$BarMeasure", "what", "I", true)
def tyX18 : Nat → FieldType := fun k => match k with
  | _ => .int
abbrev wsX180 : List Cond := u_ws RX18 TX18 1
theorem nmX18 : ∀ a, a < 1 → ∀ b, b < 1 → a ≠ b → (TX18 a).2.1 ≠ (TX18 b).2.1 := by decide +kernel
theorem tyX18_ok : ∀ k, k < 1 → parseFieldDescriptor (TX18 k).2.2.1 = some (tyX18 k) := by decide +kernel
abbrev cX18_of : ByteArray := prog_3_method_3_code
def yX18_of : MethodName := ⟨RX18, "of", "(Ljava/lang/Object;)I"⟩
def dkwX18_of_0 : List UInt8 := [42, 43, 192, 0, 14, 182, 0, 27, 172]
abbrev dktX18_of_0 : List UInt8 := dkwX18_of_0 ++ []
theorem dksX18_of_0 : cX18_of.data.toList.drop 0 = dktX18_of_0 := by decide +kernel
theorem dX18_of_0 : decode cX18_of 0 = .ok (.aload_n 0, 1) := dk_42 (dk_at dksX18_of_0 0 rfl rfl)
theorem dX18_of_1 : decode cX18_of 1 = .ok (.aload_n 1, 1) := dk_43 (dk_at dksX18_of_0 1 rfl rfl)
theorem dX18_of_2 : decode cX18_of 2 = .ok (.checkcast 14, 3) := dk_192 0 14 (dk_at dksX18_of_0 2 rfl rfl)
theorem dX18_of_5 : decode cX18_of 5 = .ok (.invokevirtual 27, 3) := dk_182 0 27 (dk_at dksX18_of_0 5 rfl rfl)
theorem dX18_of_8 : decode cX18_of 8 = .ok (.ireturn, 1) := dk_172 (dk_at dksX18_of_0 8 rfl rfl)
abbrev cX18_of_2 : ByteArray := prog_3_method_2_code
def yX18_of_2 : MethodName := ⟨RX18, "of", "(LCurtainRiggers$Bar;)I"⟩
def dkwX18_of_2_2 : List UInt8 := [43, 180, 0, 13, 172, 43, 180, 0, 18, 172, 43, 180, 0, 21, 172, 43, 180, 0, 24, 172]
abbrev dktX18_of_2_2 : List UInt8 := dkwX18_of_2_2 ++ []
def dkwX18_of_2_1 : List UInt8 := [170, 0, 0, 0, 0, 0, 0, 43, 0, 0, 0, 0, 0, 0, 0, 2, 0, 0, 0, 28, 0, 0, 0, 33, 0, 0, 0, 38]
abbrev dktX18_of_2_1 : List UInt8 := dkwX18_of_2_1 ++ dktX18_of_2_2
def dkwX18_of_2_0 : List UInt8 := [42, 180, 0, 7]
abbrev dktX18_of_2_0 : List UInt8 := dkwX18_of_2_0 ++ dktX18_of_2_1
theorem dksX18_of_2_0 : cX18_of_2.data.toList.drop 0 = dktX18_of_2_0 := by decide +kernel
theorem dksX18_of_2_1 : cX18_of_2.data.toList.drop 4 = dktX18_of_2_1 := dk_seg dksX18_of_2_0 4 rfl rfl
theorem dksX18_of_2_2 : cX18_of_2.data.toList.drop 32 = dktX18_of_2_2 := dk_seg dksX18_of_2_1 28 rfl rfl
theorem dX18_of_2_0 : decode cX18_of_2 0 = .ok (.aload_n 0, 1) := dk_42 (dk_at dksX18_of_2_0 0 rfl rfl)
theorem dX18_of_2_1 : decode cX18_of_2 1 = .ok (.getfield 7, 3) := dk_180 0 7 (dk_at dksX18_of_2_0 1 rfl rfl)
theorem dX18_of_2_4 : decode cX18_of_2 4 = .ok (.tableswitch 43 0 2 #[28, 33, 38], 28) := by decide +kernel
theorem dX18_of_2_32 : decode cX18_of_2 32 = .ok (.aload_n 1, 1) := dk_43 (dk_at dksX18_of_2_2 0 rfl rfl)
theorem dX18_of_2_33 : decode cX18_of_2 33 = .ok (.getfield 13, 3) := dk_180 0 13 (dk_at dksX18_of_2_2 1 rfl rfl)
theorem dX18_of_2_36 : decode cX18_of_2 36 = .ok (.ireturn, 1) := dk_172 (dk_at dksX18_of_2_2 4 rfl rfl)
theorem dX18_of_2_37 : decode cX18_of_2 37 = .ok (.aload_n 1, 1) := dk_43 (dk_at dksX18_of_2_2 5 rfl rfl)
theorem dX18_of_2_38 : decode cX18_of_2 38 = .ok (.getfield 18, 3) := dk_180 0 18 (dk_at dksX18_of_2_2 6 rfl rfl)
theorem dX18_of_2_41 : decode cX18_of_2 41 = .ok (.ireturn, 1) := dk_172 (dk_at dksX18_of_2_2 9 rfl rfl)
theorem dX18_of_2_42 : decode cX18_of_2 42 = .ok (.aload_n 1, 1) := dk_43 (dk_at dksX18_of_2_2 10 rfl rfl)
theorem dX18_of_2_43 : decode cX18_of_2 43 = .ok (.getfield 21, 3) := dk_180 0 21 (dk_at dksX18_of_2_2 11 rfl rfl)
theorem dX18_of_2_46 : decode cX18_of_2 46 = .ok (.ireturn, 1) := dk_172 (dk_at dksX18_of_2_2 14 rfl rfl)
theorem dX18_of_2_47 : decode cX18_of_2 47 = .ok (.aload_n 1, 1) := dk_43 (dk_at dksX18_of_2_2 15 rfl rfl)
theorem dX18_of_2_48 : decode cX18_of_2 48 = .ok (.getfield 24, 3) := dk_180 0 24 (dk_at dksX18_of_2_2 16 rfl rfl)
theorem dX18_of_2_51 : decode cX18_of_2 51 = .ok (.ireturn, 1) := dk_172 (dk_at dksX18_of_2_2 19 rfl rfl)
abbrev cX18_init : ByteArray := prog_3_method_1_code
def yX18_init : MethodName := ⟨RX18, "<init>", "(I)V"⟩
def dkwX18_init_0 : List UInt8 := [42, 183, 0, 1, 42, 27, 181, 0, 7, 177]
abbrev dktX18_init_0 : List UInt8 := dkwX18_init_0 ++ []
theorem dksX18_init_0 : cX18_init.data.toList.drop 0 = dktX18_init_0 := by decide +kernel
theorem dX18_init_0 : decode cX18_init 0 = .ok (.aload_n 0, 1) := dk_42 (dk_at dksX18_init_0 0 rfl rfl)
theorem dX18_init_1 : decode cX18_init 1 = .ok (.invokespecial 1, 3) := dk_183 0 1 (dk_at dksX18_init_0 1 rfl rfl)
theorem dX18_init_4 : decode cX18_init 4 = .ok (.aload_n 0, 1) := dk_42 (dk_at dksX18_init_0 4 rfl rfl)
theorem dX18_init_5 : decode cX18_init 5 = .ok (.iload_n 1, 1) := dk_27 (dk_at dksX18_init_0 5 rfl rfl)
theorem dX18_init_6 : decode cX18_init 6 = .ok (.putfield 7, 3) := dk_181 0 7 (dk_at dksX18_init_0 6 rfl rfl)
theorem dX18_init_9 : decode cX18_init 9 = .ok (.return_, 1) := dk_177 (dk_at dksX18_init_0 9 rfl rfl)
theorem q114 : (Jvm.Cond.initialized "CurtainRiggers$BarMeasure") ∈ lw_all := lw_g (lw_at lw_m1 46 rfl) rfl
theorem q533 : (Jvm.Cond.fieldLinkNest "CurtainRiggers$BarMeasure" (13 : Nat) "CurtainRiggers$Bar" "height" "I" "CurtainRiggers") ∈ lw_tbl := lw_at lw_m2 225 rfl
theorem q537 : (Jvm.Cond.fieldLinkNest "CurtainRiggers$BarMeasure" (18 : Nat) "CurtainRiggers$Bar" "load" "I" "CurtainRiggers") ∈ lw_tbl := lw_at lw_m2 229 rfl
theorem q544 : (Jvm.Cond.fieldLinkNest "CurtainRiggers$BarMeasure" (21 : Nat) "CurtainRiggers$Bar" "weights" "I" "CurtainRiggers") ∈ lw_tbl := lw_at lw_m2 236 rfl
theorem q552 : (Jvm.Cond.fieldLinkNest "CurtainRiggers$BarMeasure" (24 : Nat) "CurtainRiggers$Bar" "flown" "I" "CurtainRiggers") ∈ lw_tbl := lw_at lw_m3 4 rfl
theorem q678 : (Jvm.Cond.selects "CurtainRiggers$BarMeasure" ({ cls := "java/lang/Object", name := "getClass", desc := "()Ljava/lang/Class;" } : Jvm.MethodName) ({ cls := "java/lang/Object", name := "getClass", desc := "()Ljava/lang/Class;" } : Jvm.MethodName)) ∈ lw_all := lw_g (lw_at lw_m3 130 rfl) rfl
theorem q1232 : (Jvm.Cond.castable "CurtainRiggers$BarMeasure" "CurtainRiggers$Measure") ∈ lw_tbl := lw_at lw_m5 204 rfl
theorem q1233 : (Jvm.Cond.selects "CurtainRiggers$BarMeasure" ({ cls := "CurtainRiggers$Measure", name := "of", desc := "(Ljava/lang/Object;)I" } : Jvm.MethodName) ({ cls := "CurtainRiggers$BarMeasure", name := "of", desc := "(Ljava/lang/Object;)I" } : Jvm.MethodName)) ∈ lw_all := lw_g (lw_at lw_m5 205 rfl) rfl
theorem q1234 : (Jvm.Cond.unhidden "CurtainRiggers$BarMeasure" "of" "(Ljava/lang/Object;)I") ∈ lw_tbl := lw_at lw_m5 206 rfl
theorem q1235 : (Jvm.Cond.instanceMethod ({ cls := "CurtainRiggers$BarMeasure", name := "of", desc := "(Ljava/lang/Object;)I" } : Jvm.MethodName)) ∈ lw_all := lw_g (lw_at lw_m5 207 rfl) rfl
theorem q1236 : (Jvm.Cond.publicMethod ({ cls := "CurtainRiggers$BarMeasure", name := "of", desc := "(Ljava/lang/Object;)I" } : Jvm.MethodName)) ∈ lw_tbl := lw_at lw_m5 208 rfl
theorem q1237 : (Jvm.Cond.code ({ cls := "CurtainRiggers$BarMeasure", name := "of", desc := "(Ljava/lang/Object;)I" } : Jvm.MethodName) prog_3_method_3_code (2 : Nat) (Option.some Jvm.ClassFile.FieldType.int)) ∈ lw_all := lw_g (lw_at lw_m5 209 rfl) rfl
theorem q1238 : (Jvm.Cond.classLink "CurtainRiggers$BarMeasure" (14 : Nat) "CurtainRiggers$Bar") ∈ lw_all := lw_g (lw_at lw_m5 210 rfl) rfl
theorem q1239 : (Jvm.Cond.methodLink "CurtainRiggers$BarMeasure" (27 : Nat) ({ cls := "CurtainRiggers$BarMeasure", name := "of", desc := "(LCurtainRiggers$Bar;)I" } : Jvm.MethodName)) ∈ lw_all := lw_g (lw_at lw_m5 211 rfl) rfl
theorem q1240 : (Jvm.Cond.instanceMethod ({ cls := "CurtainRiggers$BarMeasure", name := "of", desc := "(LCurtainRiggers$Bar;)I" } : Jvm.MethodName)) ∈ lw_all := lw_g (lw_at lw_m5 212 rfl) rfl
theorem q1241 : (Jvm.Cond.selects "CurtainRiggers$BarMeasure" ({ cls := "CurtainRiggers$BarMeasure", name := "of", desc := "(LCurtainRiggers$Bar;)I" } : Jvm.MethodName) ({ cls := "CurtainRiggers$BarMeasure", name := "of", desc := "(LCurtainRiggers$Bar;)I" } : Jvm.MethodName)) ∈ lw_all := lw_g (lw_at lw_m5 213 rfl) rfl
theorem q1242 : (Jvm.Cond.code ({ cls := "CurtainRiggers$BarMeasure", name := "of", desc := "(LCurtainRiggers$Bar;)I" } : Jvm.MethodName) prog_3_method_2_code (2 : Nat) (Option.some Jvm.ClassFile.FieldType.int)) ∈ lw_all := lw_g (lw_at lw_m5 214 rfl) rfl
theorem q1316 : (Jvm.Cond.instantiable "CurtainRiggers$BarMeasure" (1 : Nat)) ∈ lw_all := lw_g (lw_at lw_m6 48 rfl) rfl
theorem q1318 : (Jvm.Cond.instanceMethod ({ cls := "CurtainRiggers$BarMeasure", name := "<init>", desc := "(I)V" } : Jvm.MethodName)) ∈ lw_all := lw_g (lw_at lw_m6 50 rfl) rfl
theorem q1319 : (Jvm.Cond.code ({ cls := "CurtainRiggers$BarMeasure", name := "<init>", desc := "(I)V" } : Jvm.MethodName) prog_3_method_1_code (2 : Nat) (Option.none : Option Jvm.ClassFile.FieldType)) ∈ lw_all := lw_g (lw_at lw_m6 51 rfl) rfl
theorem q1320 : (Jvm.Cond.methodLink "CurtainRiggers$BarMeasure" (1 : Nat) ({ cls := "java/lang/Object", name := "<init>", desc := "()V" } : Jvm.MethodName)) ∈ lw_all := lw_g (lw_at lw_m6 52 rfl) rfl
theorem q1321 : (Jvm.Cond.fieldLink "CurtainRiggers$BarMeasure" (7 : Nat) "CurtainRiggers$BarMeasure" "what" "I") ∈ lw_all := lw_g (lw_at lw_m6 53 rfl) rfl
theorem q1322 : (Jvm.Cond.laysFinal "CurtainRiggers$BarMeasure" "CurtainRiggers$BarMeasure" "what" "I") ∈ lw_all := lw_g (lw_at lw_m6 54 rfl) rfl
theorem q1323 : (Jvm.Cond.soleField "CurtainRiggers$BarMeasure" "what") ∈ lw_all := lw_g (lw_at lw_m6 55 rfl) rfl
theorem q1324 : (Jvm.Cond.superclass "CurtainRiggers$BarMeasure" "java/lang/Object") ∈ lw_all := lw_g (lw_at lw_m6 56 rfl) rfl
theorem q2732 : (Jvm.Cond.castable "CurtainRiggers$BarMeasure" "java/lang/Object") ∈ lw_tbl := lw_at lw_m12 24 rfl
theorem in_X18 : ∀ w ∈ wsX180, w ∈ lw_all := lw_in wsX180 [1322] (by decide +kernel) (by decide +kernel)

/-! CurtainRiggers$Parser -/
set_option maxRecDepth 100000
def RX19 : String := "CurtainRiggers$Parser"
def TX19 : u_T := fun k => match k with
  | 0 => ("CurtainRiggers$Parser", "text", "Ljava/lang/CharSequence;", true)
  | _ => ("CurtainRiggers$Parser", "position", "I", false)
def tyX19 : Nat → FieldType := fun k => match k with
  | 0 => .object "java/lang/CharSequence"
  | _ => .int
abbrev wsX190 : List Cond := u_ws RX19 TX19 2
theorem nmX19 : ∀ a, a < 2 → ∀ b, b < 2 → a ≠ b → (TX19 a).2.1 ≠ (TX19 b).2.1 := by decide +kernel
theorem tyX19_ok : ∀ k, k < 2 → parseFieldDescriptor (TX19 k).2.2.1 = some (tyX19 k) := by decide +kernel
abbrev cX19_init : ByteArray := prog_13_method_1_code
def yX19_init : MethodName := ⟨RX19, "<init>", "(Ljava/lang/CharSequence;)V"⟩
def dkwX19_init_0 : List UInt8 := [42, 183, 0, 1, 42, 43, 181, 0, 7, 177]
abbrev dktX19_init_0 : List UInt8 := dkwX19_init_0 ++ []
theorem dksX19_init_0 : cX19_init.data.toList.drop 0 = dktX19_init_0 := by decide +kernel
theorem dX19_init_0 : decode cX19_init 0 = .ok (.aload_n 0, 1) := dk_42 (dk_at dksX19_init_0 0 rfl rfl)
theorem dX19_init_1 : decode cX19_init 1 = .ok (.invokespecial 1, 3) := dk_183 0 1 (dk_at dksX19_init_0 1 rfl rfl)
theorem dX19_init_4 : decode cX19_init 4 = .ok (.aload_n 0, 1) := dk_42 (dk_at dksX19_init_0 4 rfl rfl)
theorem dX19_init_5 : decode cX19_init 5 = .ok (.aload_n 1, 1) := dk_43 (dk_at dksX19_init_0 5 rfl rfl)
theorem dX19_init_6 : decode cX19_init 6 = .ok (.putfield 7, 3) := dk_181 0 7 (dk_at dksX19_init_0 6 rfl rfl)
theorem dX19_init_9 : decode cX19_init 9 = .ok (.return_, 1) := dk_177 (dk_at dksX19_init_0 9 rfl rfl)
abbrev cX19_items : ByteArray := prog_13_method_10_code
def yX19_items : MethodName := ⟨RX19, "items", "()Ljava/util/ArrayList;"⟩
def dkwX19_items_2 : List UInt8 := [78, 43, 42, 182, 0, 106, 182, 0, 110, 61, 167, 255, 217, 43, 176]
abbrev dktX19_items_2 : List UInt8 := dkwX19_items_2 ++ []
def dkwX19_items_1 : List UInt8 := [180, 0, 7, 185, 0, 17, 1, 0, 162, 0, 29, 42, 4, 189, 0, 43, 89, 3, 18, 113, 83, 182, 0, 83]
abbrev dktX19_items_1 : List UInt8 := dkwX19_items_1 ++ dktX19_items_2
def dkwX19_items_0 : List UInt8 := [187, 0, 103, 89, 183, 0, 105, 76, 43, 42, 182, 0, 106, 182, 0, 110, 61, 42, 180, 0, 13, 42]
abbrev dktX19_items_0 : List UInt8 := dkwX19_items_0 ++ dktX19_items_1
theorem dksX19_items_0 : cX19_items.data.toList.drop 0 = dktX19_items_0 := by decide +kernel
theorem dksX19_items_1 : cX19_items.data.toList.drop 22 = dktX19_items_1 := dk_seg dksX19_items_0 22 rfl rfl
theorem dksX19_items_2 : cX19_items.data.toList.drop 46 = dktX19_items_2 := dk_seg dksX19_items_1 24 rfl rfl
theorem dX19_items_0 : decode cX19_items 0 = .ok (.new 103, 3) := dk_187 0 103 (dk_at dksX19_items_0 0 rfl rfl)
theorem dX19_items_3 : decode cX19_items 3 = .ok (.dup, 1) := dk_89 (dk_at dksX19_items_0 3 rfl rfl)
theorem dX19_items_4 : decode cX19_items 4 = .ok (.invokespecial 105, 3) := dk_183 0 105 (dk_at dksX19_items_0 4 rfl rfl)
theorem dX19_items_7 : decode cX19_items 7 = .ok (.astore_n 1, 1) := dk_76 (dk_at dksX19_items_0 7 rfl rfl)
theorem dX19_items_8 : decode cX19_items 8 = .ok (.aload_n 1, 1) := dk_43 (dk_at dksX19_items_0 8 rfl rfl)
theorem dX19_items_9 : decode cX19_items 9 = .ok (.aload_n 0, 1) := dk_42 (dk_at dksX19_items_0 9 rfl rfl)
theorem dX19_items_10 : decode cX19_items 10 = .ok (.invokevirtual 106, 3) := dk_182 0 106 (dk_at dksX19_items_0 10 rfl rfl)
theorem dX19_items_13 : decode cX19_items 13 = .ok (.invokevirtual 110, 3) := dk_182 0 110 (dk_at dksX19_items_0 13 rfl rfl)
theorem dX19_items_16 : decode cX19_items 16 = .ok (.istore_n 2, 1) := dk_61 (dk_at dksX19_items_0 16 rfl rfl)
theorem dX19_items_17 : decode cX19_items 17 = .ok (.aload_n 0, 1) := dk_42 (dk_at dksX19_items_0 17 rfl rfl)
theorem dX19_items_18 : decode cX19_items 18 = .ok (.getfield 13, 3) := dk_180 0 13 (dk_at dksX19_items_0 18 rfl rfl)
theorem dX19_items_21 : decode cX19_items 21 = .ok (.aload_n 0, 1) := dk_42 (dk_at dksX19_items_0 21 rfl rfl)
theorem dX19_items_22 : decode cX19_items 22 = .ok (.getfield 7, 3) := dk_180 0 7 (dk_at dksX19_items_1 0 rfl rfl)
theorem dX19_items_25 : decode cX19_items 25 = .ok (.invokeinterface 17 1, 5) := by decide +kernel
theorem dX19_items_30 : decode cX19_items 30 = .ok (.if_icmp .ge 29, 3) := dk_162 0 29 (dk_at dksX19_items_1 8 rfl rfl)
theorem dX19_items_33 : decode cX19_items 33 = .ok (.aload_n 0, 1) := dk_42 (dk_at dksX19_items_1 11 rfl rfl)
theorem dX19_items_34 : decode cX19_items 34 = .ok (.iconst 1, 1) := dk_4 (dk_at dksX19_items_1 12 rfl rfl)
theorem dX19_items_35 : decode cX19_items 35 = .ok (.anewarray 43, 3) := dk_189 0 43 (dk_at dksX19_items_1 13 rfl rfl)
theorem dX19_items_38 : decode cX19_items 38 = .ok (.dup, 1) := dk_89 (dk_at dksX19_items_1 16 rfl rfl)
theorem dX19_items_39 : decode cX19_items 39 = .ok (.iconst 0, 1) := dk_3 (dk_at dksX19_items_1 17 rfl rfl)
theorem dX19_items_40 : decode cX19_items 40 = .ok (.ldc 113, 2) := dk_18 113 (dk_at dksX19_items_1 18 rfl rfl)
theorem dX19_items_42 : decode cX19_items 42 = .ok (.aastore, 1) := dk_83 (dk_at dksX19_items_1 20 rfl rfl)
theorem dX19_items_43 : decode cX19_items 43 = .ok (.invokevirtual 83, 3) := dk_182 0 83 (dk_at dksX19_items_1 21 rfl rfl)
theorem dX19_items_46 : decode cX19_items 46 = .ok (.astore_n 3, 1) := dk_78 (dk_at dksX19_items_2 0 rfl rfl)
theorem dX19_items_47 : decode cX19_items 47 = .ok (.aload_n 1, 1) := dk_43 (dk_at dksX19_items_2 1 rfl rfl)
theorem dX19_items_48 : decode cX19_items 48 = .ok (.aload_n 0, 1) := dk_42 (dk_at dksX19_items_2 2 rfl rfl)
theorem dX19_items_49 : decode cX19_items 49 = .ok (.invokevirtual 106, 3) := dk_182 0 106 (dk_at dksX19_items_2 3 rfl rfl)
theorem dX19_items_52 : decode cX19_items 52 = .ok (.invokevirtual 110, 3) := dk_182 0 110 (dk_at dksX19_items_2 6 rfl rfl)
theorem dX19_items_55 : decode cX19_items 55 = .ok (.istore_n 2, 1) := dk_61 (dk_at dksX19_items_2 9 rfl rfl)
theorem dX19_items_56 : decode cX19_items 56 = .ok (.goto (-39), 3) := dk_167 255 217 (dk_at dksX19_items_2 10 rfl rfl)
theorem dX19_items_59 : decode cX19_items 59 = .ok (.aload_n 1, 1) := dk_43 (dk_at dksX19_items_2 13 rfl rfl)
theorem dX19_items_60 : decode cX19_items 60 = .ok (.areturn, 1) := dk_176 (dk_at dksX19_items_2 14 rfl rfl)
abbrev cX19_item : ByteArray := prog_13_method_9_code
def yX19_item : MethodName := ⟨RX19, "item", "()LCurtainRiggers$Change;"⟩
def dkwX19_item_12 : List UInt8 := [176, 42, 182, 0, 59, 54, 4, 187, 0, 94, 89, 43, 21, 4, 42, 3, 182, 0, 99, 183, 0, 96, 176]
abbrev dktX19_item_12 : List UInt8 := dkwX19_item_12 ++ []
def dkwX19_item_11 : List UInt8 := [89, 43, 42, 182, 0, 62, 3, 183, 0, 96, 176, 187, 0, 94, 89, 43, 42, 182, 0, 59, 3, 183, 0, 96]
abbrev dktX19_item_11 : List UInt8 := dkwX19_item_11 ++ dktX19_item_12
def dkwX19_item_10 : List UInt8 := [182, 0, 62, 54, 4, 187, 0, 94, 89, 43, 21, 4, 42, 4, 182, 0, 99, 183, 0, 96, 176, 187, 0, 94]
abbrev dktX19_item_10 : List UInt8 := dkwX19_item_10 ++ dktX19_item_11
def dkwX19_item_9 : List UInt8 := [187, 0, 94, 89, 43, 3, 3, 183, 0, 96, 176, 187, 0, 94, 89, 43, 4, 3, 183, 0, 96, 176, 42]
abbrev dktX19_item_9 : List UInt8 := dkwX19_item_9 ++ dktX19_item_10
def dkwX19_item_8 : List UInt8 := [170, 0, 0, 0, 0, 110, 0, 0, 0, 0, 0, 0, 0, 5, 0, 0, 0, 38, 0, 0, 0, 49, 0, 0, 0, 60, 0, 0, 0, 82, 0, 0, 0, 96, 0, 0, 0, 96]
abbrev dktX19_item_8 : List UInt8 := dkwX19_item_8 ++ dktX19_item_9
def dkwX19_item_7 : List UInt8 := [18, 79, 182, 0, 90, 153, 0, 5, 8, 62, 29]
abbrev dktX19_item_7 : List UInt8 := dkwX19_item_7 ++ dktX19_item_8
def dkwX19_item_6 : List UInt8 := [153, 0, 33, 6, 62, 167, 0, 28, 44, 18, 77, 182, 0, 90, 153, 0, 19, 7, 62, 167, 0, 14, 44]
abbrev dktX19_item_6 : List UInt8 := dkwX19_item_6 ++ dktX19_item_7
def dkwX19_item_5 : List UInt8 := [62, 167, 0, 56, 44, 18, 65, 182, 0, 90, 153, 0, 47, 5, 62, 167, 0, 42, 44, 18, 67, 182, 0, 90]
abbrev dktX19_item_5 : List UInt8 := dkwX19_item_5 ++ dktX19_item_6
def dkwX19_item_4 : List UInt8 := [44, 18, 75, 182, 0, 90, 153, 0, 75, 3, 62, 167, 0, 70, 44, 18, 81, 182, 0, 90, 153, 0, 61, 4]
abbrev dktX19_item_4 : List UInt8 := dkwX19_item_4 ++ dktX19_item_5
def dkwX19_item_3 : List UInt8 := [171, 0, 0, 0, 0, 139, 0, 0, 0, 6, 175, 21, 225, 40, 0, 0, 0, 128, 0, 0, 12, 232, 0, 0, 0, 58, 0, 56, 136, 61, 0, 0, 0, 72, 5, 182, 175, 17, 0, 0, 0, 100, 5, 231, 77, 238, 0, 0, 0, 86, 6, 80, 163, 22, 0, 0, 0, 114]
abbrev dktX19_item_3 : List UInt8 := dkwX19_item_3 ++ dktX19_item_4
def dkwX19_item_2 : List UInt8 := [83, 89, 16, 8, 18, 81, 83, 182, 0, 83, 76, 43, 77, 2, 62, 44, 182, 0, 87]
abbrev dktX19_item_2 : List UInt8 := dkwX19_item_2 ++ dktX19_item_3
def dkwX19_item_1 : List UInt8 := [18, 71, 83, 89, 7, 18, 73, 83, 89, 8, 18, 75, 83, 89, 16, 6, 18, 77, 83, 89, 16, 7, 18, 79]
abbrev dktX19_item_1 : List UInt8 := dkwX19_item_1 ++ dktX19_item_2
def dkwX19_item_0 : List UInt8 := [42, 16, 9, 189, 0, 43, 89, 3, 18, 65, 83, 89, 4, 18, 67, 83, 89, 5, 18, 69, 83, 89, 6]
abbrev dktX19_item_0 : List UInt8 := dkwX19_item_0 ++ dktX19_item_1
theorem dksX19_item_0 : cX19_item.data.toList.drop 0 = dktX19_item_0 := by decide +kernel
theorem dksX19_item_1 : cX19_item.data.toList.drop 23 = dktX19_item_1 := dk_seg dksX19_item_0 23 rfl rfl
theorem dksX19_item_2 : cX19_item.data.toList.drop 47 = dktX19_item_2 := dk_seg dksX19_item_1 24 rfl rfl
theorem dksX19_item_3 : cX19_item.data.toList.drop 66 = dktX19_item_3 := dk_seg dksX19_item_2 19 rfl rfl
theorem dksX19_item_4 : cX19_item.data.toList.drop 124 = dktX19_item_4 := dk_seg dksX19_item_3 58 rfl rfl
theorem dksX19_item_5 : cX19_item.data.toList.drop 148 = dktX19_item_5 := dk_seg dksX19_item_4 24 rfl rfl
theorem dksX19_item_6 : cX19_item.data.toList.drop 172 = dktX19_item_6 := dk_seg dksX19_item_5 24 rfl rfl
theorem dksX19_item_7 : cX19_item.data.toList.drop 195 = dktX19_item_7 := dk_seg dksX19_item_6 23 rfl rfl
theorem dksX19_item_8 : cX19_item.data.toList.drop 206 = dktX19_item_8 := dk_seg dksX19_item_7 11 rfl rfl
theorem dksX19_item_9 : cX19_item.data.toList.drop 244 = dktX19_item_9 := dk_seg dksX19_item_8 38 rfl rfl
theorem dksX19_item_10 : cX19_item.data.toList.drop 267 = dktX19_item_10 := dk_seg dksX19_item_9 23 rfl rfl
theorem dksX19_item_11 : cX19_item.data.toList.drop 291 = dktX19_item_11 := dk_seg dksX19_item_10 24 rfl rfl
theorem dksX19_item_12 : cX19_item.data.toList.drop 315 = dktX19_item_12 := dk_seg dksX19_item_11 24 rfl rfl
theorem dX19_item_0 : decode cX19_item 0 = .ok (.aload_n 0, 1) := dk_42 (dk_at dksX19_item_0 0 rfl rfl)
theorem dX19_item_1 : decode cX19_item 1 = .ok (.bipush 9, 2) := dk_16 9 (dk_at dksX19_item_0 1 rfl rfl)
theorem dX19_item_3 : decode cX19_item 3 = .ok (.anewarray 43, 3) := dk_189 0 43 (dk_at dksX19_item_0 3 rfl rfl)
theorem dX19_item_6 : decode cX19_item 6 = .ok (.dup, 1) := dk_89 (dk_at dksX19_item_0 6 rfl rfl)
theorem dX19_item_7 : decode cX19_item 7 = .ok (.iconst 0, 1) := dk_3 (dk_at dksX19_item_0 7 rfl rfl)
theorem dX19_item_8 : decode cX19_item 8 = .ok (.ldc 65, 2) := dk_18 65 (dk_at dksX19_item_0 8 rfl rfl)
theorem dX19_item_10 : decode cX19_item 10 = .ok (.aastore, 1) := dk_83 (dk_at dksX19_item_0 10 rfl rfl)
theorem dX19_item_11 : decode cX19_item 11 = .ok (.dup, 1) := dk_89 (dk_at dksX19_item_0 11 rfl rfl)
theorem dX19_item_12 : decode cX19_item 12 = .ok (.iconst 1, 1) := dk_4 (dk_at dksX19_item_0 12 rfl rfl)
theorem dX19_item_13 : decode cX19_item 13 = .ok (.ldc 67, 2) := dk_18 67 (dk_at dksX19_item_0 13 rfl rfl)
theorem dX19_item_15 : decode cX19_item 15 = .ok (.aastore, 1) := dk_83 (dk_at dksX19_item_0 15 rfl rfl)
theorem dX19_item_16 : decode cX19_item 16 = .ok (.dup, 1) := dk_89 (dk_at dksX19_item_0 16 rfl rfl)
theorem dX19_item_17 : decode cX19_item 17 = .ok (.iconst 2, 1) := dk_5 (dk_at dksX19_item_0 17 rfl rfl)
theorem dX19_item_18 : decode cX19_item 18 = .ok (.ldc 69, 2) := dk_18 69 (dk_at dksX19_item_0 18 rfl rfl)
theorem dX19_item_20 : decode cX19_item 20 = .ok (.aastore, 1) := dk_83 (dk_at dksX19_item_0 20 rfl rfl)
theorem dX19_item_21 : decode cX19_item 21 = .ok (.dup, 1) := dk_89 (dk_at dksX19_item_0 21 rfl rfl)
theorem dX19_item_22 : decode cX19_item 22 = .ok (.iconst 3, 1) := dk_6 (dk_at dksX19_item_0 22 rfl rfl)
theorem dX19_item_23 : decode cX19_item 23 = .ok (.ldc 71, 2) := dk_18 71 (dk_at dksX19_item_1 0 rfl rfl)
theorem dX19_item_25 : decode cX19_item 25 = .ok (.aastore, 1) := dk_83 (dk_at dksX19_item_1 2 rfl rfl)
theorem dX19_item_26 : decode cX19_item 26 = .ok (.dup, 1) := dk_89 (dk_at dksX19_item_1 3 rfl rfl)
theorem dX19_item_27 : decode cX19_item 27 = .ok (.iconst 4, 1) := dk_7 (dk_at dksX19_item_1 4 rfl rfl)
theorem dX19_item_28 : decode cX19_item 28 = .ok (.ldc 73, 2) := dk_18 73 (dk_at dksX19_item_1 5 rfl rfl)
theorem dX19_item_30 : decode cX19_item 30 = .ok (.aastore, 1) := dk_83 (dk_at dksX19_item_1 7 rfl rfl)
theorem dX19_item_31 : decode cX19_item 31 = .ok (.dup, 1) := dk_89 (dk_at dksX19_item_1 8 rfl rfl)
theorem dX19_item_32 : decode cX19_item 32 = .ok (.iconst 5, 1) := dk_8 (dk_at dksX19_item_1 9 rfl rfl)
theorem dX19_item_33 : decode cX19_item 33 = .ok (.ldc 75, 2) := dk_18 75 (dk_at dksX19_item_1 10 rfl rfl)
theorem dX19_item_35 : decode cX19_item 35 = .ok (.aastore, 1) := dk_83 (dk_at dksX19_item_1 12 rfl rfl)
theorem dX19_item_36 : decode cX19_item 36 = .ok (.dup, 1) := dk_89 (dk_at dksX19_item_1 13 rfl rfl)
theorem dX19_item_37 : decode cX19_item 37 = .ok (.bipush 6, 2) := dk_16 6 (dk_at dksX19_item_1 14 rfl rfl)
theorem dX19_item_39 : decode cX19_item 39 = .ok (.ldc 77, 2) := dk_18 77 (dk_at dksX19_item_1 16 rfl rfl)
theorem dX19_item_41 : decode cX19_item 41 = .ok (.aastore, 1) := dk_83 (dk_at dksX19_item_1 18 rfl rfl)
theorem dX19_item_42 : decode cX19_item 42 = .ok (.dup, 1) := dk_89 (dk_at dksX19_item_1 19 rfl rfl)
theorem dX19_item_43 : decode cX19_item 43 = .ok (.bipush 7, 2) := dk_16 7 (dk_at dksX19_item_1 20 rfl rfl)
theorem dX19_item_45 : decode cX19_item 45 = .ok (.ldc 79, 2) := dk_18 79 (dk_at dksX19_item_1 22 rfl rfl)
theorem dX19_item_47 : decode cX19_item 47 = .ok (.aastore, 1) := dk_83 (dk_at dksX19_item_2 0 rfl rfl)
theorem dX19_item_48 : decode cX19_item 48 = .ok (.dup, 1) := dk_89 (dk_at dksX19_item_2 1 rfl rfl)
theorem dX19_item_49 : decode cX19_item 49 = .ok (.bipush 8, 2) := dk_16 8 (dk_at dksX19_item_2 2 rfl rfl)
theorem dX19_item_51 : decode cX19_item 51 = .ok (.ldc 81, 2) := dk_18 81 (dk_at dksX19_item_2 4 rfl rfl)
theorem dX19_item_53 : decode cX19_item 53 = .ok (.aastore, 1) := dk_83 (dk_at dksX19_item_2 6 rfl rfl)
theorem dX19_item_54 : decode cX19_item 54 = .ok (.invokevirtual 83, 3) := dk_182 0 83 (dk_at dksX19_item_2 7 rfl rfl)
theorem dX19_item_57 : decode cX19_item 57 = .ok (.astore_n 1, 1) := dk_76 (dk_at dksX19_item_2 10 rfl rfl)
theorem dX19_item_58 : decode cX19_item 58 = .ok (.aload_n 1, 1) := dk_43 (dk_at dksX19_item_2 11 rfl rfl)
theorem dX19_item_59 : decode cX19_item 59 = .ok (.astore_n 2, 1) := dk_77 (dk_at dksX19_item_2 12 rfl rfl)
theorem dX19_item_60 : decode cX19_item 60 = .ok (.iconst (-1), 1) := dk_2 (dk_at dksX19_item_2 13 rfl rfl)
theorem dX19_item_61 : decode cX19_item 61 = .ok (.istore_n 3, 1) := dk_62 (dk_at dksX19_item_2 14 rfl rfl)
theorem dX19_item_62 : decode cX19_item 62 = .ok (.aload_n 2, 1) := dk_44 (dk_at dksX19_item_2 15 rfl rfl)
theorem dX19_item_63 : decode cX19_item 63 = .ok (.invokevirtual 87, 3) := dk_182 0 87 (dk_at dksX19_item_2 16 rfl rfl)
theorem dX19_item_66 : decode cX19_item 66 = .ok (.lookupswitch 139 #[(-1357520600, 128), (3304, 58), (3704893, 72), (95858449, 100), (99044846, 86), (105947926, 114)], 58) := by decide +kernel
theorem dX19_item_124 : decode cX19_item 124 = .ok (.aload_n 2, 1) := dk_44 (dk_at dksX19_item_4 0 rfl rfl)
theorem dX19_item_125 : decode cX19_item 125 = .ok (.ldc 75, 2) := dk_18 75 (dk_at dksX19_item_4 1 rfl rfl)
theorem dX19_item_127 : decode cX19_item 127 = .ok (.invokevirtual 90, 3) := dk_182 0 90 (dk_at dksX19_item_4 3 rfl rfl)
theorem dX19_item_130 : decode cX19_item 130 = .ok (.ifCond .eq 75, 3) := dk_153 0 75 (dk_at dksX19_item_4 6 rfl rfl)
theorem dX19_item_133 : decode cX19_item 133 = .ok (.iconst 0, 1) := dk_3 (dk_at dksX19_item_4 9 rfl rfl)
theorem dX19_item_134 : decode cX19_item 134 = .ok (.istore_n 3, 1) := dk_62 (dk_at dksX19_item_4 10 rfl rfl)
theorem dX19_item_135 : decode cX19_item 135 = .ok (.goto 70, 3) := dk_167 0 70 (dk_at dksX19_item_4 11 rfl rfl)
theorem dX19_item_138 : decode cX19_item 138 = .ok (.aload_n 2, 1) := dk_44 (dk_at dksX19_item_4 14 rfl rfl)
theorem dX19_item_139 : decode cX19_item 139 = .ok (.ldc 81, 2) := dk_18 81 (dk_at dksX19_item_4 15 rfl rfl)
theorem dX19_item_141 : decode cX19_item 141 = .ok (.invokevirtual 90, 3) := dk_182 0 90 (dk_at dksX19_item_4 17 rfl rfl)
theorem dX19_item_144 : decode cX19_item 144 = .ok (.ifCond .eq 61, 3) := dk_153 0 61 (dk_at dksX19_item_4 20 rfl rfl)
theorem dX19_item_147 : decode cX19_item 147 = .ok (.iconst 1, 1) := dk_4 (dk_at dksX19_item_4 23 rfl rfl)
theorem dX19_item_148 : decode cX19_item 148 = .ok (.istore_n 3, 1) := dk_62 (dk_at dksX19_item_5 0 rfl rfl)
theorem dX19_item_149 : decode cX19_item 149 = .ok (.goto 56, 3) := dk_167 0 56 (dk_at dksX19_item_5 1 rfl rfl)
theorem dX19_item_152 : decode cX19_item 152 = .ok (.aload_n 2, 1) := dk_44 (dk_at dksX19_item_5 4 rfl rfl)
theorem dX19_item_153 : decode cX19_item 153 = .ok (.ldc 65, 2) := dk_18 65 (dk_at dksX19_item_5 5 rfl rfl)
theorem dX19_item_155 : decode cX19_item 155 = .ok (.invokevirtual 90, 3) := dk_182 0 90 (dk_at dksX19_item_5 7 rfl rfl)
theorem dX19_item_158 : decode cX19_item 158 = .ok (.ifCond .eq 47, 3) := dk_153 0 47 (dk_at dksX19_item_5 10 rfl rfl)
theorem dX19_item_161 : decode cX19_item 161 = .ok (.iconst 2, 1) := dk_5 (dk_at dksX19_item_5 13 rfl rfl)
theorem dX19_item_162 : decode cX19_item 162 = .ok (.istore_n 3, 1) := dk_62 (dk_at dksX19_item_5 14 rfl rfl)
theorem dX19_item_163 : decode cX19_item 163 = .ok (.goto 42, 3) := dk_167 0 42 (dk_at dksX19_item_5 15 rfl rfl)
theorem dX19_item_166 : decode cX19_item 166 = .ok (.aload_n 2, 1) := dk_44 (dk_at dksX19_item_5 18 rfl rfl)
theorem dX19_item_167 : decode cX19_item 167 = .ok (.ldc 67, 2) := dk_18 67 (dk_at dksX19_item_5 19 rfl rfl)
theorem dX19_item_169 : decode cX19_item 169 = .ok (.invokevirtual 90, 3) := dk_182 0 90 (dk_at dksX19_item_5 21 rfl rfl)
theorem dX19_item_172 : decode cX19_item 172 = .ok (.ifCond .eq 33, 3) := dk_153 0 33 (dk_at dksX19_item_6 0 rfl rfl)
theorem dX19_item_175 : decode cX19_item 175 = .ok (.iconst 3, 1) := dk_6 (dk_at dksX19_item_6 3 rfl rfl)
theorem dX19_item_176 : decode cX19_item 176 = .ok (.istore_n 3, 1) := dk_62 (dk_at dksX19_item_6 4 rfl rfl)
theorem dX19_item_177 : decode cX19_item 177 = .ok (.goto 28, 3) := dk_167 0 28 (dk_at dksX19_item_6 5 rfl rfl)
theorem dX19_item_180 : decode cX19_item 180 = .ok (.aload_n 2, 1) := dk_44 (dk_at dksX19_item_6 8 rfl rfl)
theorem dX19_item_181 : decode cX19_item 181 = .ok (.ldc 77, 2) := dk_18 77 (dk_at dksX19_item_6 9 rfl rfl)
theorem dX19_item_183 : decode cX19_item 183 = .ok (.invokevirtual 90, 3) := dk_182 0 90 (dk_at dksX19_item_6 11 rfl rfl)
theorem dX19_item_186 : decode cX19_item 186 = .ok (.ifCond .eq 19, 3) := dk_153 0 19 (dk_at dksX19_item_6 14 rfl rfl)
theorem dX19_item_189 : decode cX19_item 189 = .ok (.iconst 4, 1) := dk_7 (dk_at dksX19_item_6 17 rfl rfl)
theorem dX19_item_190 : decode cX19_item 190 = .ok (.istore_n 3, 1) := dk_62 (dk_at dksX19_item_6 18 rfl rfl)
theorem dX19_item_191 : decode cX19_item 191 = .ok (.goto 14, 3) := dk_167 0 14 (dk_at dksX19_item_6 19 rfl rfl)
theorem dX19_item_194 : decode cX19_item 194 = .ok (.aload_n 2, 1) := dk_44 (dk_at dksX19_item_6 22 rfl rfl)
theorem dX19_item_195 : decode cX19_item 195 = .ok (.ldc 79, 2) := dk_18 79 (dk_at dksX19_item_7 0 rfl rfl)
theorem dX19_item_197 : decode cX19_item 197 = .ok (.invokevirtual 90, 3) := dk_182 0 90 (dk_at dksX19_item_7 2 rfl rfl)
theorem dX19_item_200 : decode cX19_item 200 = .ok (.ifCond .eq 5, 3) := dk_153 0 5 (dk_at dksX19_item_7 5 rfl rfl)
theorem dX19_item_203 : decode cX19_item 203 = .ok (.iconst 5, 1) := dk_8 (dk_at dksX19_item_7 8 rfl rfl)
theorem dX19_item_204 : decode cX19_item 204 = .ok (.istore_n 3, 1) := dk_62 (dk_at dksX19_item_7 9 rfl rfl)
theorem dX19_item_205 : decode cX19_item 205 = .ok (.iload_n 3, 1) := dk_29 (dk_at dksX19_item_7 10 rfl rfl)
theorem dX19_item_206 : decode cX19_item 206 = .ok (.tableswitch 110 0 5 #[38, 49, 60, 82, 96, 96], 38) := by decide +kernel
theorem dX19_item_244 : decode cX19_item 244 = .ok (.new 94, 3) := dk_187 0 94 (dk_at dksX19_item_9 0 rfl rfl)
theorem dX19_item_247 : decode cX19_item 247 = .ok (.dup, 1) := dk_89 (dk_at dksX19_item_9 3 rfl rfl)
theorem dX19_item_248 : decode cX19_item 248 = .ok (.aload_n 1, 1) := dk_43 (dk_at dksX19_item_9 4 rfl rfl)
theorem dX19_item_249 : decode cX19_item 249 = .ok (.iconst 0, 1) := dk_3 (dk_at dksX19_item_9 5 rfl rfl)
theorem dX19_item_250 : decode cX19_item 250 = .ok (.iconst 0, 1) := dk_3 (dk_at dksX19_item_9 6 rfl rfl)
theorem dX19_item_251 : decode cX19_item 251 = .ok (.invokespecial 96, 3) := dk_183 0 96 (dk_at dksX19_item_9 7 rfl rfl)
theorem dX19_item_254 : decode cX19_item 254 = .ok (.areturn, 1) := dk_176 (dk_at dksX19_item_9 10 rfl rfl)
theorem dX19_item_255 : decode cX19_item 255 = .ok (.new 94, 3) := dk_187 0 94 (dk_at dksX19_item_9 11 rfl rfl)
theorem dX19_item_258 : decode cX19_item 258 = .ok (.dup, 1) := dk_89 (dk_at dksX19_item_9 14 rfl rfl)
theorem dX19_item_259 : decode cX19_item 259 = .ok (.aload_n 1, 1) := dk_43 (dk_at dksX19_item_9 15 rfl rfl)
theorem dX19_item_260 : decode cX19_item 260 = .ok (.iconst 1, 1) := dk_4 (dk_at dksX19_item_9 16 rfl rfl)
theorem dX19_item_261 : decode cX19_item 261 = .ok (.iconst 0, 1) := dk_3 (dk_at dksX19_item_9 17 rfl rfl)
theorem dX19_item_262 : decode cX19_item 262 = .ok (.invokespecial 96, 3) := dk_183 0 96 (dk_at dksX19_item_9 18 rfl rfl)
theorem dX19_item_265 : decode cX19_item 265 = .ok (.areturn, 1) := dk_176 (dk_at dksX19_item_9 21 rfl rfl)
theorem dX19_item_266 : decode cX19_item 266 = .ok (.aload_n 0, 1) := dk_42 (dk_at dksX19_item_9 22 rfl rfl)
theorem dX19_item_267 : decode cX19_item 267 = .ok (.invokevirtual 62, 3) := dk_182 0 62 (dk_at dksX19_item_10 0 rfl rfl)
theorem dX19_item_270 : decode cX19_item 270 = .ok (.istore 4, 2) := dk_54 4 (dk_at dksX19_item_10 3 rfl rfl)
theorem dX19_item_272 : decode cX19_item 272 = .ok (.new 94, 3) := dk_187 0 94 (dk_at dksX19_item_10 5 rfl rfl)
theorem dX19_item_275 : decode cX19_item 275 = .ok (.dup, 1) := dk_89 (dk_at dksX19_item_10 8 rfl rfl)
theorem dX19_item_276 : decode cX19_item 276 = .ok (.aload_n 1, 1) := dk_43 (dk_at dksX19_item_10 9 rfl rfl)
theorem dX19_item_277 : decode cX19_item 277 = .ok (.iload 4, 2) := dk_21 4 (dk_at dksX19_item_10 10 rfl rfl)
theorem dX19_item_279 : decode cX19_item 279 = .ok (.aload_n 0, 1) := dk_42 (dk_at dksX19_item_10 12 rfl rfl)
theorem dX19_item_280 : decode cX19_item 280 = .ok (.iconst 1, 1) := dk_4 (dk_at dksX19_item_10 13 rfl rfl)
theorem dX19_item_281 : decode cX19_item 281 = .ok (.invokevirtual 99, 3) := dk_182 0 99 (dk_at dksX19_item_10 14 rfl rfl)
theorem dX19_item_284 : decode cX19_item 284 = .ok (.invokespecial 96, 3) := dk_183 0 96 (dk_at dksX19_item_10 17 rfl rfl)
theorem dX19_item_287 : decode cX19_item 287 = .ok (.areturn, 1) := dk_176 (dk_at dksX19_item_10 20 rfl rfl)
theorem dX19_item_288 : decode cX19_item 288 = .ok (.new 94, 3) := dk_187 0 94 (dk_at dksX19_item_10 21 rfl rfl)
theorem dX19_item_291 : decode cX19_item 291 = .ok (.dup, 1) := dk_89 (dk_at dksX19_item_11 0 rfl rfl)
theorem dX19_item_292 : decode cX19_item 292 = .ok (.aload_n 1, 1) := dk_43 (dk_at dksX19_item_11 1 rfl rfl)
theorem dX19_item_293 : decode cX19_item 293 = .ok (.aload_n 0, 1) := dk_42 (dk_at dksX19_item_11 2 rfl rfl)
theorem dX19_item_294 : decode cX19_item 294 = .ok (.invokevirtual 62, 3) := dk_182 0 62 (dk_at dksX19_item_11 3 rfl rfl)
theorem dX19_item_297 : decode cX19_item 297 = .ok (.iconst 0, 1) := dk_3 (dk_at dksX19_item_11 6 rfl rfl)
theorem dX19_item_298 : decode cX19_item 298 = .ok (.invokespecial 96, 3) := dk_183 0 96 (dk_at dksX19_item_11 7 rfl rfl)
theorem dX19_item_301 : decode cX19_item 301 = .ok (.areturn, 1) := dk_176 (dk_at dksX19_item_11 10 rfl rfl)
theorem dX19_item_302 : decode cX19_item 302 = .ok (.new 94, 3) := dk_187 0 94 (dk_at dksX19_item_11 11 rfl rfl)
theorem dX19_item_305 : decode cX19_item 305 = .ok (.dup, 1) := dk_89 (dk_at dksX19_item_11 14 rfl rfl)
theorem dX19_item_306 : decode cX19_item 306 = .ok (.aload_n 1, 1) := dk_43 (dk_at dksX19_item_11 15 rfl rfl)
theorem dX19_item_307 : decode cX19_item 307 = .ok (.aload_n 0, 1) := dk_42 (dk_at dksX19_item_11 16 rfl rfl)
theorem dX19_item_308 : decode cX19_item 308 = .ok (.invokevirtual 59, 3) := dk_182 0 59 (dk_at dksX19_item_11 17 rfl rfl)
theorem dX19_item_311 : decode cX19_item 311 = .ok (.iconst 0, 1) := dk_3 (dk_at dksX19_item_11 20 rfl rfl)
theorem dX19_item_312 : decode cX19_item 312 = .ok (.invokespecial 96, 3) := dk_183 0 96 (dk_at dksX19_item_11 21 rfl rfl)
theorem dX19_item_315 : decode cX19_item 315 = .ok (.areturn, 1) := dk_176 (dk_at dksX19_item_12 0 rfl rfl)
theorem dX19_item_316 : decode cX19_item 316 = .ok (.aload_n 0, 1) := dk_42 (dk_at dksX19_item_12 1 rfl rfl)
theorem dX19_item_317 : decode cX19_item 317 = .ok (.invokevirtual 59, 3) := dk_182 0 59 (dk_at dksX19_item_12 2 rfl rfl)
theorem dX19_item_320 : decode cX19_item 320 = .ok (.istore 4, 2) := dk_54 4 (dk_at dksX19_item_12 5 rfl rfl)
theorem dX19_item_322 : decode cX19_item 322 = .ok (.new 94, 3) := dk_187 0 94 (dk_at dksX19_item_12 7 rfl rfl)
theorem dX19_item_325 : decode cX19_item 325 = .ok (.dup, 1) := dk_89 (dk_at dksX19_item_12 10 rfl rfl)
theorem dX19_item_326 : decode cX19_item 326 = .ok (.aload_n 1, 1) := dk_43 (dk_at dksX19_item_12 11 rfl rfl)
theorem dX19_item_327 : decode cX19_item 327 = .ok (.iload 4, 2) := dk_21 4 (dk_at dksX19_item_12 12 rfl rfl)
theorem dX19_item_329 : decode cX19_item 329 = .ok (.aload_n 0, 1) := dk_42 (dk_at dksX19_item_12 14 rfl rfl)
theorem dX19_item_330 : decode cX19_item 330 = .ok (.iconst 0, 1) := dk_3 (dk_at dksX19_item_12 15 rfl rfl)
theorem dX19_item_331 : decode cX19_item 331 = .ok (.invokevirtual 99, 3) := dk_182 0 99 (dk_at dksX19_item_12 16 rfl rfl)
theorem dX19_item_334 : decode cX19_item 334 = .ok (.invokespecial 96, 3) := dk_183 0 96 (dk_at dksX19_item_12 19 rfl rfl)
theorem dX19_item_337 : decode cX19_item 337 = .ok (.areturn, 1) := dk_176 (dk_at dksX19_item_12 22 rfl rfl)
abbrev cX19_word : ByteArray := prog_13_method_5_code
def yX19_word : MethodName := ⟨RX19, "word", "([Ljava/lang/String;)Ljava/lang/String;"⟩
def dkwX19_word_3 : List UInt8 := [187, 0, 37, 89, 42, 180, 0, 13, 28, 96, 183, 0, 39, 191]
abbrev dktX19_word_3 : List UInt8 := dkwX19_word_3 ++ []
def dkwX19_word_2 : List UInt8 := [21, 7, 96, 181, 0, 13, 25, 6, 176, 28, 21, 7, 184, 0, 50, 61, 132, 5, 1, 167, 255, 201]
abbrev dktX19_word_2 : List UInt8 := dkwX19_word_2 ++ dktX19_word_3
def dkwX19_word_1 : List UInt8 := [42, 25, 6, 182, 0, 46, 54, 7, 21, 7, 25, 6, 182, 0, 42, 160, 0, 17, 42, 89, 180, 0, 13]
abbrev dktX19_word_1 : List UInt8 := dkwX19_word_1 ++ dktX19_word_2
def dkwX19_word_0 : List UInt8 := [3, 61, 43, 78, 45, 190, 54, 4, 3, 54, 5, 21, 5, 21, 4, 162, 0, 54, 45, 21, 5, 50, 58, 6]
abbrev dktX19_word_0 : List UInt8 := dkwX19_word_0 ++ dktX19_word_1
theorem dksX19_word_0 : cX19_word.data.toList.drop 0 = dktX19_word_0 := by decide +kernel
theorem dksX19_word_1 : cX19_word.data.toList.drop 24 = dktX19_word_1 := dk_seg dksX19_word_0 24 rfl rfl
theorem dksX19_word_2 : cX19_word.data.toList.drop 47 = dktX19_word_2 := dk_seg dksX19_word_1 23 rfl rfl
theorem dksX19_word_3 : cX19_word.data.toList.drop 69 = dktX19_word_3 := dk_seg dksX19_word_2 22 rfl rfl
theorem dX19_word_0 : decode cX19_word 0 = .ok (.iconst 0, 1) := dk_3 (dk_at dksX19_word_0 0 rfl rfl)
theorem dX19_word_1 : decode cX19_word 1 = .ok (.istore_n 2, 1) := dk_61 (dk_at dksX19_word_0 1 rfl rfl)
theorem dX19_word_2 : decode cX19_word 2 = .ok (.aload_n 1, 1) := dk_43 (dk_at dksX19_word_0 2 rfl rfl)
theorem dX19_word_3 : decode cX19_word 3 = .ok (.astore_n 3, 1) := dk_78 (dk_at dksX19_word_0 3 rfl rfl)
theorem dX19_word_4 : decode cX19_word 4 = .ok (.aload_n 3, 1) := dk_45 (dk_at dksX19_word_0 4 rfl rfl)
theorem dX19_word_5 : decode cX19_word 5 = .ok (.arraylength, 1) := dk_190 (dk_at dksX19_word_0 5 rfl rfl)
theorem dX19_word_6 : decode cX19_word 6 = .ok (.istore 4, 2) := dk_54 4 (dk_at dksX19_word_0 6 rfl rfl)
theorem dX19_word_8 : decode cX19_word 8 = .ok (.iconst 0, 1) := dk_3 (dk_at dksX19_word_0 8 rfl rfl)
theorem dX19_word_9 : decode cX19_word 9 = .ok (.istore 5, 2) := dk_54 5 (dk_at dksX19_word_0 9 rfl rfl)
theorem dX19_word_11 : decode cX19_word 11 = .ok (.iload 5, 2) := dk_21 5 (dk_at dksX19_word_0 11 rfl rfl)
theorem dX19_word_13 : decode cX19_word 13 = .ok (.iload 4, 2) := dk_21 4 (dk_at dksX19_word_0 13 rfl rfl)
theorem dX19_word_15 : decode cX19_word 15 = .ok (.if_icmp .ge 54, 3) := dk_162 0 54 (dk_at dksX19_word_0 15 rfl rfl)
theorem dX19_word_18 : decode cX19_word 18 = .ok (.aload_n 3, 1) := dk_45 (dk_at dksX19_word_0 18 rfl rfl)
theorem dX19_word_19 : decode cX19_word 19 = .ok (.iload 5, 2) := dk_21 5 (dk_at dksX19_word_0 19 rfl rfl)
theorem dX19_word_21 : decode cX19_word 21 = .ok (.aaload, 1) := dk_50 (dk_at dksX19_word_0 21 rfl rfl)
theorem dX19_word_22 : decode cX19_word 22 = .ok (.astore 6, 2) := dk_58 6 (dk_at dksX19_word_0 22 rfl rfl)
theorem dX19_word_24 : decode cX19_word 24 = .ok (.aload_n 0, 1) := dk_42 (dk_at dksX19_word_1 0 rfl rfl)
theorem dX19_word_25 : decode cX19_word 25 = .ok (.aload 6, 2) := dk_25 6 (dk_at dksX19_word_1 1 rfl rfl)
theorem dX19_word_27 : decode cX19_word 27 = .ok (.invokevirtual 46, 3) := dk_182 0 46 (dk_at dksX19_word_1 3 rfl rfl)
theorem dX19_word_30 : decode cX19_word 30 = .ok (.istore 7, 2) := dk_54 7 (dk_at dksX19_word_1 6 rfl rfl)
theorem dX19_word_32 : decode cX19_word 32 = .ok (.iload 7, 2) := dk_21 7 (dk_at dksX19_word_1 8 rfl rfl)
theorem dX19_word_34 : decode cX19_word 34 = .ok (.aload 6, 2) := dk_25 6 (dk_at dksX19_word_1 10 rfl rfl)
theorem dX19_word_36 : decode cX19_word 36 = .ok (.invokevirtual 42, 3) := dk_182 0 42 (dk_at dksX19_word_1 12 rfl rfl)
theorem dX19_word_39 : decode cX19_word 39 = .ok (.if_icmp .ne 17, 3) := dk_160 0 17 (dk_at dksX19_word_1 15 rfl rfl)
theorem dX19_word_42 : decode cX19_word 42 = .ok (.aload_n 0, 1) := dk_42 (dk_at dksX19_word_1 18 rfl rfl)
theorem dX19_word_43 : decode cX19_word 43 = .ok (.dup, 1) := dk_89 (dk_at dksX19_word_1 19 rfl rfl)
theorem dX19_word_44 : decode cX19_word 44 = .ok (.getfield 13, 3) := dk_180 0 13 (dk_at dksX19_word_1 20 rfl rfl)
theorem dX19_word_47 : decode cX19_word 47 = .ok (.iload 7, 2) := dk_21 7 (dk_at dksX19_word_2 0 rfl rfl)
theorem dX19_word_49 : decode cX19_word 49 = .ok (.iadd, 1) := dk_96 (dk_at dksX19_word_2 2 rfl rfl)
theorem dX19_word_50 : decode cX19_word 50 = .ok (.putfield 13, 3) := dk_181 0 13 (dk_at dksX19_word_2 3 rfl rfl)
theorem dX19_word_53 : decode cX19_word 53 = .ok (.aload 6, 2) := dk_25 6 (dk_at dksX19_word_2 6 rfl rfl)
theorem dX19_word_55 : decode cX19_word 55 = .ok (.areturn, 1) := dk_176 (dk_at dksX19_word_2 8 rfl rfl)
theorem dX19_word_56 : decode cX19_word 56 = .ok (.iload_n 2, 1) := dk_28 (dk_at dksX19_word_2 9 rfl rfl)
theorem dX19_word_57 : decode cX19_word 57 = .ok (.iload 7, 2) := dk_21 7 (dk_at dksX19_word_2 10 rfl rfl)
theorem dX19_word_59 : decode cX19_word 59 = .ok (.invokestatic 50, 3) := dk_184 0 50 (dk_at dksX19_word_2 12 rfl rfl)
theorem dX19_word_62 : decode cX19_word 62 = .ok (.istore_n 2, 1) := dk_61 (dk_at dksX19_word_2 15 rfl rfl)
theorem dX19_word_63 : decode cX19_word 63 = .ok (.iinc 5 1, 3) := dk_132 5 1 (dk_at dksX19_word_2 16 rfl rfl)
theorem dX19_word_66 : decode cX19_word 66 = .ok (.goto (-55), 3) := dk_167 255 201 (dk_at dksX19_word_2 19 rfl rfl)
theorem dX19_word_69 : decode cX19_word 69 = .ok (.new 37, 3) := dk_187 0 37 (dk_at dksX19_word_3 0 rfl rfl)
theorem dX19_word_72 : decode cX19_word 72 = .ok (.dup, 1) := dk_89 (dk_at dksX19_word_3 3 rfl rfl)
theorem dX19_word_73 : decode cX19_word 73 = .ok (.aload_n 0, 1) := dk_42 (dk_at dksX19_word_3 4 rfl rfl)
theorem dX19_word_74 : decode cX19_word 74 = .ok (.getfield 13, 3) := dk_180 0 13 (dk_at dksX19_word_3 5 rfl rfl)
theorem dX19_word_77 : decode cX19_word 77 = .ok (.iload_n 2, 1) := dk_28 (dk_at dksX19_word_3 8 rfl rfl)
theorem dX19_word_78 : decode cX19_word 78 = .ok (.iadd, 1) := dk_96 (dk_at dksX19_word_3 9 rfl rfl)
theorem dX19_word_79 : decode cX19_word 79 = .ok (.invokespecial 39, 3) := dk_183 0 39 (dk_at dksX19_word_3 10 rfl rfl)
theorem dX19_word_82 : decode cX19_word 82 = .ok (.athrow, 1) := dk_191 (dk_at dksX19_word_3 13 rfl rfl)
abbrev cX19_common : ByteArray := prog_13_method_4_code
def yX19_common : MethodName := ⟨RX19, "common", "(Ljava/lang/String;)I"⟩
def dkwX19_common_2 : List UInt8 := [185, 0, 23, 2, 0, 160, 0, 9, 132, 2, 1, 167, 255, 204, 28, 172]
abbrev dktX19_common_2 : List UInt8 := dkwX19_common_2 ++ []
def dkwX19_common_1 : List UInt8 := [185, 0, 17, 1, 0, 162, 0, 32, 43, 28, 182, 0, 45, 42, 180, 0, 7, 42, 180, 0, 13, 28, 96]
abbrev dktX19_common_1 : List UInt8 := dkwX19_common_1 ++ dktX19_common_2
def dkwX19_common_0 : List UInt8 := [3, 61, 28, 43, 182, 0, 42, 162, 0, 50, 42, 180, 0, 13, 28, 96, 42, 180, 0, 7]
abbrev dktX19_common_0 : List UInt8 := dkwX19_common_0 ++ dktX19_common_1
theorem dksX19_common_0 : cX19_common.data.toList.drop 0 = dktX19_common_0 := by decide +kernel
theorem dksX19_common_1 : cX19_common.data.toList.drop 20 = dktX19_common_1 := dk_seg dksX19_common_0 20 rfl rfl
theorem dksX19_common_2 : cX19_common.data.toList.drop 43 = dktX19_common_2 := dk_seg dksX19_common_1 23 rfl rfl
theorem dX19_common_0 : decode cX19_common 0 = .ok (.iconst 0, 1) := dk_3 (dk_at dksX19_common_0 0 rfl rfl)
theorem dX19_common_1 : decode cX19_common 1 = .ok (.istore_n 2, 1) := dk_61 (dk_at dksX19_common_0 1 rfl rfl)
theorem dX19_common_2 : decode cX19_common 2 = .ok (.iload_n 2, 1) := dk_28 (dk_at dksX19_common_0 2 rfl rfl)
theorem dX19_common_3 : decode cX19_common 3 = .ok (.aload_n 1, 1) := dk_43 (dk_at dksX19_common_0 3 rfl rfl)
theorem dX19_common_4 : decode cX19_common 4 = .ok (.invokevirtual 42, 3) := dk_182 0 42 (dk_at dksX19_common_0 4 rfl rfl)
theorem dX19_common_7 : decode cX19_common 7 = .ok (.if_icmp .ge 50, 3) := dk_162 0 50 (dk_at dksX19_common_0 7 rfl rfl)
theorem dX19_common_10 : decode cX19_common 10 = .ok (.aload_n 0, 1) := dk_42 (dk_at dksX19_common_0 10 rfl rfl)
theorem dX19_common_11 : decode cX19_common 11 = .ok (.getfield 13, 3) := dk_180 0 13 (dk_at dksX19_common_0 11 rfl rfl)
theorem dX19_common_14 : decode cX19_common 14 = .ok (.iload_n 2, 1) := dk_28 (dk_at dksX19_common_0 14 rfl rfl)
theorem dX19_common_15 : decode cX19_common 15 = .ok (.iadd, 1) := dk_96 (dk_at dksX19_common_0 15 rfl rfl)
theorem dX19_common_16 : decode cX19_common 16 = .ok (.aload_n 0, 1) := dk_42 (dk_at dksX19_common_0 16 rfl rfl)
theorem dX19_common_17 : decode cX19_common 17 = .ok (.getfield 7, 3) := dk_180 0 7 (dk_at dksX19_common_0 17 rfl rfl)
theorem dX19_common_20 : decode cX19_common 20 = .ok (.invokeinterface 17 1, 5) := by decide +kernel
theorem dX19_common_25 : decode cX19_common 25 = .ok (.if_icmp .ge 32, 3) := dk_162 0 32 (dk_at dksX19_common_1 5 rfl rfl)
theorem dX19_common_28 : decode cX19_common 28 = .ok (.aload_n 1, 1) := dk_43 (dk_at dksX19_common_1 8 rfl rfl)
theorem dX19_common_29 : decode cX19_common 29 = .ok (.iload_n 2, 1) := dk_28 (dk_at dksX19_common_1 9 rfl rfl)
theorem dX19_common_30 : decode cX19_common 30 = .ok (.invokevirtual 45, 3) := dk_182 0 45 (dk_at dksX19_common_1 10 rfl rfl)
theorem dX19_common_33 : decode cX19_common 33 = .ok (.aload_n 0, 1) := dk_42 (dk_at dksX19_common_1 13 rfl rfl)
theorem dX19_common_34 : decode cX19_common 34 = .ok (.getfield 7, 3) := dk_180 0 7 (dk_at dksX19_common_1 14 rfl rfl)
theorem dX19_common_37 : decode cX19_common 37 = .ok (.aload_n 0, 1) := dk_42 (dk_at dksX19_common_1 17 rfl rfl)
theorem dX19_common_38 : decode cX19_common 38 = .ok (.getfield 13, 3) := dk_180 0 13 (dk_at dksX19_common_1 18 rfl rfl)
theorem dX19_common_41 : decode cX19_common 41 = .ok (.iload_n 2, 1) := dk_28 (dk_at dksX19_common_1 21 rfl rfl)
theorem dX19_common_42 : decode cX19_common 42 = .ok (.iadd, 1) := dk_96 (dk_at dksX19_common_1 22 rfl rfl)
theorem dX19_common_43 : decode cX19_common 43 = .ok (.invokeinterface 23 2, 5) := by decide +kernel
theorem dX19_common_48 : decode cX19_common 48 = .ok (.if_icmp .ne 9, 3) := dk_160 0 9 (dk_at dksX19_common_2 5 rfl rfl)
theorem dX19_common_51 : decode cX19_common 51 = .ok (.iinc 2 1, 3) := dk_132 2 1 (dk_at dksX19_common_2 8 rfl rfl)
theorem dX19_common_54 : decode cX19_common 54 = .ok (.goto (-52), 3) := dk_167 255 204 (dk_at dksX19_common_2 11 rfl rfl)
theorem dX19_common_57 : decode cX19_common 57 = .ok (.iload_n 2, 1) := dk_28 (dk_at dksX19_common_2 14 rfl rfl)
theorem dX19_common_58 : decode cX19_common 58 = .ok (.ireturn, 1) := dk_172 (dk_at dksX19_common_2 15 rfl rfl)
abbrev cX19_number : ByteArray := prog_13_method_7_code
def yX19_number : MethodName := ⟨RX19, "number", "()I"⟩
def dkwX19_number_1 : List UInt8 := [42, 182, 0, 59, 96, 167, 0, 4, 27, 172]
abbrev dktX19_number_1 : List UInt8 := dkwX19_number_1 ++ []
def dkwX19_number_0 : List UInt8 := [42, 182, 0, 59, 60, 27, 158, 0, 26, 42, 16, 48, 16, 57, 182, 0, 33, 153, 0, 15, 16, 10, 27, 104]
abbrev dktX19_number_0 : List UInt8 := dkwX19_number_0 ++ dktX19_number_1
theorem dksX19_number_0 : cX19_number.data.toList.drop 0 = dktX19_number_0 := by decide +kernel
theorem dksX19_number_1 : cX19_number.data.toList.drop 24 = dktX19_number_1 := dk_seg dksX19_number_0 24 rfl rfl
theorem dX19_number_0 : decode cX19_number 0 = .ok (.aload_n 0, 1) := dk_42 (dk_at dksX19_number_0 0 rfl rfl)
theorem dX19_number_1 : decode cX19_number 1 = .ok (.invokevirtual 59, 3) := dk_182 0 59 (dk_at dksX19_number_0 1 rfl rfl)
theorem dX19_number_4 : decode cX19_number 4 = .ok (.istore_n 1, 1) := dk_60 (dk_at dksX19_number_0 4 rfl rfl)
theorem dX19_number_5 : decode cX19_number 5 = .ok (.iload_n 1, 1) := dk_27 (dk_at dksX19_number_0 5 rfl rfl)
theorem dX19_number_6 : decode cX19_number 6 = .ok (.ifCond .le 26, 3) := dk_158 0 26 (dk_at dksX19_number_0 6 rfl rfl)
theorem dX19_number_9 : decode cX19_number 9 = .ok (.aload_n 0, 1) := dk_42 (dk_at dksX19_number_0 9 rfl rfl)
theorem dX19_number_10 : decode cX19_number 10 = .ok (.bipush 48, 2) := dk_16 48 (dk_at dksX19_number_0 10 rfl rfl)
theorem dX19_number_12 : decode cX19_number 12 = .ok (.bipush 57, 2) := dk_16 57 (dk_at dksX19_number_0 12 rfl rfl)
theorem dX19_number_14 : decode cX19_number 14 = .ok (.invokevirtual 33, 3) := dk_182 0 33 (dk_at dksX19_number_0 14 rfl rfl)
theorem dX19_number_17 : decode cX19_number 17 = .ok (.ifCond .eq 15, 3) := dk_153 0 15 (dk_at dksX19_number_0 17 rfl rfl)
theorem dX19_number_20 : decode cX19_number 20 = .ok (.bipush 10, 2) := dk_16 10 (dk_at dksX19_number_0 20 rfl rfl)
theorem dX19_number_22 : decode cX19_number 22 = .ok (.iload_n 1, 1) := dk_27 (dk_at dksX19_number_0 22 rfl rfl)
theorem dX19_number_23 : decode cX19_number 23 = .ok (.imul, 1) := dk_104 (dk_at dksX19_number_0 23 rfl rfl)
theorem dX19_number_24 : decode cX19_number 24 = .ok (.aload_n 0, 1) := dk_42 (dk_at dksX19_number_1 0 rfl rfl)
theorem dX19_number_25 : decode cX19_number 25 = .ok (.invokevirtual 59, 3) := dk_182 0 59 (dk_at dksX19_number_1 1 rfl rfl)
theorem dX19_number_28 : decode cX19_number 28 = .ok (.iadd, 1) := dk_96 (dk_at dksX19_number_1 4 rfl rfl)
theorem dX19_number_29 : decode cX19_number 29 = .ok (.goto 4, 3) := dk_167 0 4 (dk_at dksX19_number_1 5 rfl rfl)
theorem dX19_number_32 : decode cX19_number 32 = .ok (.iload_n 1, 1) := dk_27 (dk_at dksX19_number_1 8 rfl rfl)
theorem dX19_number_33 : decode cX19_number 33 = .ok (.ireturn, 1) := dk_172 (dk_at dksX19_number_1 9 rfl rfl)
abbrev cX19_digit : ByteArray := prog_13_method_6_code
def yX19_digit : MethodName := ⟨RX19, "digit", "()I"⟩
def dkwX19_digit_0 : List UInt8 := [42, 16, 48, 16, 57, 182, 0, 56, 172]
abbrev dktX19_digit_0 : List UInt8 := dkwX19_digit_0 ++ []
theorem dksX19_digit_0 : cX19_digit.data.toList.drop 0 = dktX19_digit_0 := by decide +kernel
theorem dX19_digit_0 : decode cX19_digit 0 = .ok (.aload_n 0, 1) := dk_42 (dk_at dksX19_digit_0 0 rfl rfl)
theorem dX19_digit_1 : decode cX19_digit 1 = .ok (.bipush 48, 2) := dk_16 48 (dk_at dksX19_digit_0 1 rfl rfl)
theorem dX19_digit_3 : decode cX19_digit 3 = .ok (.bipush 57, 2) := dk_16 57 (dk_at dksX19_digit_0 3 rfl rfl)
theorem dX19_digit_5 : decode cX19_digit 5 = .ok (.invokevirtual 56, 3) := dk_182 0 56 (dk_at dksX19_digit_0 5 rfl rfl)
theorem dX19_digit_8 : decode cX19_digit 8 = .ok (.ireturn, 1) := dk_172 (dk_at dksX19_digit_0 8 rfl rfl)
abbrev cX19_take : ByteArray := prog_13_method_3_code
def yX19_take : MethodName := ⟨RX19, "take", "(II)I"⟩
def dkwX19_take_2 : List UInt8 := [100, 172]
abbrev dktX19_take_2 : List UInt8 := dkwX19_take_2 ++ []
def dkwX19_take_1 : List UInt8 := [180, 0, 13, 4, 96, 181, 0, 13, 42, 180, 0, 7, 42, 180, 0, 13, 4, 100, 185, 0, 23, 2, 0, 27]
abbrev dktX19_take_1 : List UInt8 := dkwX19_take_1 ++ dktX19_take_2
def dkwX19_take_0 : List UInt8 := [42, 27, 28, 182, 0, 33, 154, 0, 15, 187, 0, 37, 89, 42, 180, 0, 13, 183, 0, 39, 191, 42, 89]
abbrev dktX19_take_0 : List UInt8 := dkwX19_take_0 ++ dktX19_take_1
theorem dksX19_take_0 : cX19_take.data.toList.drop 0 = dktX19_take_0 := by decide +kernel
theorem dksX19_take_1 : cX19_take.data.toList.drop 23 = dktX19_take_1 := dk_seg dksX19_take_0 23 rfl rfl
theorem dksX19_take_2 : cX19_take.data.toList.drop 47 = dktX19_take_2 := dk_seg dksX19_take_1 24 rfl rfl
theorem dX19_take_0 : decode cX19_take 0 = .ok (.aload_n 0, 1) := dk_42 (dk_at dksX19_take_0 0 rfl rfl)
theorem dX19_take_1 : decode cX19_take 1 = .ok (.iload_n 1, 1) := dk_27 (dk_at dksX19_take_0 1 rfl rfl)
theorem dX19_take_2 : decode cX19_take 2 = .ok (.iload_n 2, 1) := dk_28 (dk_at dksX19_take_0 2 rfl rfl)
theorem dX19_take_3 : decode cX19_take 3 = .ok (.invokevirtual 33, 3) := dk_182 0 33 (dk_at dksX19_take_0 3 rfl rfl)
theorem dX19_take_6 : decode cX19_take 6 = .ok (.ifCond .ne 15, 3) := dk_154 0 15 (dk_at dksX19_take_0 6 rfl rfl)
theorem dX19_take_9 : decode cX19_take 9 = .ok (.new 37, 3) := dk_187 0 37 (dk_at dksX19_take_0 9 rfl rfl)
theorem dX19_take_12 : decode cX19_take 12 = .ok (.dup, 1) := dk_89 (dk_at dksX19_take_0 12 rfl rfl)
theorem dX19_take_13 : decode cX19_take 13 = .ok (.aload_n 0, 1) := dk_42 (dk_at dksX19_take_0 13 rfl rfl)
theorem dX19_take_14 : decode cX19_take 14 = .ok (.getfield 13, 3) := dk_180 0 13 (dk_at dksX19_take_0 14 rfl rfl)
theorem dX19_take_17 : decode cX19_take 17 = .ok (.invokespecial 39, 3) := dk_183 0 39 (dk_at dksX19_take_0 17 rfl rfl)
theorem dX19_take_20 : decode cX19_take 20 = .ok (.athrow, 1) := dk_191 (dk_at dksX19_take_0 20 rfl rfl)
theorem dX19_take_21 : decode cX19_take 21 = .ok (.aload_n 0, 1) := dk_42 (dk_at dksX19_take_0 21 rfl rfl)
theorem dX19_take_22 : decode cX19_take 22 = .ok (.dup, 1) := dk_89 (dk_at dksX19_take_0 22 rfl rfl)
theorem dX19_take_23 : decode cX19_take 23 = .ok (.getfield 13, 3) := dk_180 0 13 (dk_at dksX19_take_1 0 rfl rfl)
theorem dX19_take_26 : decode cX19_take 26 = .ok (.iconst 1, 1) := dk_4 (dk_at dksX19_take_1 3 rfl rfl)
theorem dX19_take_27 : decode cX19_take 27 = .ok (.iadd, 1) := dk_96 (dk_at dksX19_take_1 4 rfl rfl)
theorem dX19_take_28 : decode cX19_take 28 = .ok (.putfield 13, 3) := dk_181 0 13 (dk_at dksX19_take_1 5 rfl rfl)
theorem dX19_take_31 : decode cX19_take 31 = .ok (.aload_n 0, 1) := dk_42 (dk_at dksX19_take_1 8 rfl rfl)
theorem dX19_take_32 : decode cX19_take 32 = .ok (.getfield 7, 3) := dk_180 0 7 (dk_at dksX19_take_1 9 rfl rfl)
theorem dX19_take_35 : decode cX19_take 35 = .ok (.aload_n 0, 1) := dk_42 (dk_at dksX19_take_1 12 rfl rfl)
theorem dX19_take_36 : decode cX19_take 36 = .ok (.getfield 13, 3) := dk_180 0 13 (dk_at dksX19_take_1 13 rfl rfl)
theorem dX19_take_39 : decode cX19_take 39 = .ok (.iconst 1, 1) := dk_4 (dk_at dksX19_take_1 16 rfl rfl)
theorem dX19_take_40 : decode cX19_take 40 = .ok (.isub, 1) := dk_100 (dk_at dksX19_take_1 17 rfl rfl)
theorem dX19_take_41 : decode cX19_take 41 = .ok (.invokeinterface 23 2, 5) := by decide +kernel
theorem dX19_take_46 : decode cX19_take 46 = .ok (.iload_n 1, 1) := dk_27 (dk_at dksX19_take_1 23 rfl rfl)
theorem dX19_take_47 : decode cX19_take 47 = .ok (.isub, 1) := dk_100 (dk_at dksX19_take_2 0 rfl rfl)
theorem dX19_take_48 : decode cX19_take 48 = .ok (.ireturn, 1) := dk_172 (dk_at dksX19_take_2 1 rfl rfl)
abbrev cX19_isNext : ByteArray := prog_13_method_2_code
def yX19_isNext : MethodName := ⟨RX19, "isNext", "(II)Z"⟩
def dkwX19_isNext_1 : List UInt8 := [185, 0, 23, 2, 0, 133, 27, 133, 28, 133, 184, 0, 27, 153, 0, 7, 4, 167, 0, 4, 3, 172]
abbrev dktX19_isNext_1 : List UInt8 := dkwX19_isNext_1 ++ []
def dkwX19_isNext_0 : List UInt8 := [42, 180, 0, 13, 42, 180, 0, 7, 185, 0, 17, 1, 0, 162, 0, 31, 42, 180, 0, 7, 42, 180, 0, 13]
abbrev dktX19_isNext_0 : List UInt8 := dkwX19_isNext_0 ++ dktX19_isNext_1
theorem dksX19_isNext_0 : cX19_isNext.data.toList.drop 0 = dktX19_isNext_0 := by decide +kernel
theorem dksX19_isNext_1 : cX19_isNext.data.toList.drop 24 = dktX19_isNext_1 := dk_seg dksX19_isNext_0 24 rfl rfl
theorem dX19_isNext_0 : decode cX19_isNext 0 = .ok (.aload_n 0, 1) := dk_42 (dk_at dksX19_isNext_0 0 rfl rfl)
theorem dX19_isNext_1 : decode cX19_isNext 1 = .ok (.getfield 13, 3) := dk_180 0 13 (dk_at dksX19_isNext_0 1 rfl rfl)
theorem dX19_isNext_4 : decode cX19_isNext 4 = .ok (.aload_n 0, 1) := dk_42 (dk_at dksX19_isNext_0 4 rfl rfl)
theorem dX19_isNext_5 : decode cX19_isNext 5 = .ok (.getfield 7, 3) := dk_180 0 7 (dk_at dksX19_isNext_0 5 rfl rfl)
theorem dX19_isNext_8 : decode cX19_isNext 8 = .ok (.invokeinterface 17 1, 5) := by decide +kernel
theorem dX19_isNext_13 : decode cX19_isNext 13 = .ok (.if_icmp .ge 31, 3) := dk_162 0 31 (dk_at dksX19_isNext_0 13 rfl rfl)
theorem dX19_isNext_16 : decode cX19_isNext 16 = .ok (.aload_n 0, 1) := dk_42 (dk_at dksX19_isNext_0 16 rfl rfl)
theorem dX19_isNext_17 : decode cX19_isNext 17 = .ok (.getfield 7, 3) := dk_180 0 7 (dk_at dksX19_isNext_0 17 rfl rfl)
theorem dX19_isNext_20 : decode cX19_isNext 20 = .ok (.aload_n 0, 1) := dk_42 (dk_at dksX19_isNext_0 20 rfl rfl)
theorem dX19_isNext_21 : decode cX19_isNext 21 = .ok (.getfield 13, 3) := dk_180 0 13 (dk_at dksX19_isNext_0 21 rfl rfl)
theorem dX19_isNext_24 : decode cX19_isNext 24 = .ok (.invokeinterface 23 2, 5) := by decide +kernel
theorem dX19_isNext_29 : decode cX19_isNext 29 = .ok (.i2l, 1) := dk_133 (dk_at dksX19_isNext_1 5 rfl rfl)
theorem dX19_isNext_30 : decode cX19_isNext 30 = .ok (.iload_n 1, 1) := dk_27 (dk_at dksX19_isNext_1 6 rfl rfl)
theorem dX19_isNext_31 : decode cX19_isNext 31 = .ok (.i2l, 1) := dk_133 (dk_at dksX19_isNext_1 7 rfl rfl)
theorem dX19_isNext_32 : decode cX19_isNext 32 = .ok (.iload_n 2, 1) := dk_28 (dk_at dksX19_isNext_1 8 rfl rfl)
theorem dX19_isNext_33 : decode cX19_isNext 33 = .ok (.i2l, 1) := dk_133 (dk_at dksX19_isNext_1 9 rfl rfl)
theorem dX19_isNext_34 : decode cX19_isNext 34 = .ok (.invokestatic 27, 3) := dk_184 0 27 (dk_at dksX19_isNext_1 10 rfl rfl)
theorem dX19_isNext_37 : decode cX19_isNext 37 = .ok (.ifCond .eq 7, 3) := dk_153 0 7 (dk_at dksX19_isNext_1 13 rfl rfl)
theorem dX19_isNext_40 : decode cX19_isNext 40 = .ok (.iconst 1, 1) := dk_4 (dk_at dksX19_isNext_1 16 rfl rfl)
theorem dX19_isNext_41 : decode cX19_isNext 41 = .ok (.goto 4, 3) := dk_167 0 4 (dk_at dksX19_isNext_1 17 rfl rfl)
theorem dX19_isNext_44 : decode cX19_isNext 44 = .ok (.iconst 0, 1) := dk_3 (dk_at dksX19_isNext_1 20 rfl rfl)
theorem dX19_isNext_45 : decode cX19_isNext 45 = .ok (.ireturn, 1) := dk_172 (dk_at dksX19_isNext_1 21 rfl rfl)
abbrev cX19_behindBlank : ByteArray := prog_13_method_8_code
def yX19_behindBlank : MethodName := ⟨RX19, "behindBlank", "(Z)I"⟩
def dkwX19_behindBlank_1 : List UInt8 := [172]
abbrev dktX19_behindBlank_1 : List UInt8 := dkwX19_behindBlank_1 ++ []
def dkwX19_behindBlank_0 : List UInt8 := [42, 16, 32, 16, 32, 182, 0, 56, 61, 27, 153, 0, 10, 42, 182, 0, 59, 167, 0, 7, 42, 182, 0, 62]
abbrev dktX19_behindBlank_0 : List UInt8 := dkwX19_behindBlank_0 ++ dktX19_behindBlank_1
theorem dksX19_behindBlank_0 : cX19_behindBlank.data.toList.drop 0 = dktX19_behindBlank_0 := by decide +kernel
theorem dksX19_behindBlank_1 : cX19_behindBlank.data.toList.drop 24 = dktX19_behindBlank_1 := dk_seg dksX19_behindBlank_0 24 rfl rfl
theorem dX19_behindBlank_0 : decode cX19_behindBlank 0 = .ok (.aload_n 0, 1) := dk_42 (dk_at dksX19_behindBlank_0 0 rfl rfl)
theorem dX19_behindBlank_1 : decode cX19_behindBlank 1 = .ok (.bipush 32, 2) := dk_16 32 (dk_at dksX19_behindBlank_0 1 rfl rfl)
theorem dX19_behindBlank_3 : decode cX19_behindBlank 3 = .ok (.bipush 32, 2) := dk_16 32 (dk_at dksX19_behindBlank_0 3 rfl rfl)
theorem dX19_behindBlank_5 : decode cX19_behindBlank 5 = .ok (.invokevirtual 56, 3) := dk_182 0 56 (dk_at dksX19_behindBlank_0 5 rfl rfl)
theorem dX19_behindBlank_8 : decode cX19_behindBlank 8 = .ok (.istore_n 2, 1) := dk_61 (dk_at dksX19_behindBlank_0 8 rfl rfl)
theorem dX19_behindBlank_9 : decode cX19_behindBlank 9 = .ok (.iload_n 1, 1) := dk_27 (dk_at dksX19_behindBlank_0 9 rfl rfl)
theorem dX19_behindBlank_10 : decode cX19_behindBlank 10 = .ok (.ifCond .eq 10, 3) := dk_153 0 10 (dk_at dksX19_behindBlank_0 10 rfl rfl)
theorem dX19_behindBlank_13 : decode cX19_behindBlank 13 = .ok (.aload_n 0, 1) := dk_42 (dk_at dksX19_behindBlank_0 13 rfl rfl)
theorem dX19_behindBlank_14 : decode cX19_behindBlank 14 = .ok (.invokevirtual 59, 3) := dk_182 0 59 (dk_at dksX19_behindBlank_0 14 rfl rfl)
theorem dX19_behindBlank_17 : decode cX19_behindBlank 17 = .ok (.goto 7, 3) := dk_167 0 7 (dk_at dksX19_behindBlank_0 17 rfl rfl)
theorem dX19_behindBlank_20 : decode cX19_behindBlank 20 = .ok (.aload_n 0, 1) := dk_42 (dk_at dksX19_behindBlank_0 20 rfl rfl)
theorem dX19_behindBlank_21 : decode cX19_behindBlank 21 = .ok (.invokevirtual 62, 3) := dk_182 0 62 (dk_at dksX19_behindBlank_0 21 rfl rfl)
theorem dX19_behindBlank_24 : decode cX19_behindBlank 24 = .ok (.ireturn, 1) := dk_172 (dk_at dksX19_behindBlank_1 0 rfl rfl)
theorem q116 : (Jvm.Cond.initialized "CurtainRiggers$Parser") ∈ lw_all := lw_g (lw_at lw_m1 48 rfl) rfl
theorem q685 : (Jvm.Cond.selects "CurtainRiggers$Parser" ({ cls := "java/lang/Object", name := "getClass", desc := "()Ljava/lang/Class;" } : Jvm.MethodName) ({ cls := "java/lang/Object", name := "getClass", desc := "()Ljava/lang/Class;" } : Jvm.MethodName)) ∈ lw_all := lw_g (lw_at lw_m3 137 rfl) rfl
theorem q2075 : (Jvm.Cond.instantiable "CurtainRiggers$Parser" (2 : Nat)) ∈ lw_all := lw_g (lw_at lw_m9 87 rfl) rfl
theorem q2077 : (Jvm.Cond.instanceMethod ({ cls := "CurtainRiggers$Parser", name := "<init>", desc := "(Ljava/lang/CharSequence;)V" } : Jvm.MethodName)) ∈ lw_all := lw_g (lw_at lw_m9 89 rfl) rfl
theorem q2078 : (Jvm.Cond.code ({ cls := "CurtainRiggers$Parser", name := "<init>", desc := "(Ljava/lang/CharSequence;)V" } : Jvm.MethodName) prog_13_method_1_code (2 : Nat) (Option.none : Option Jvm.ClassFile.FieldType)) ∈ lw_all := lw_g (lw_at lw_m9 90 rfl) rfl
theorem q2079 : (Jvm.Cond.methodLink "CurtainRiggers$Parser" (1 : Nat) ({ cls := "java/lang/Object", name := "<init>", desc := "()V" } : Jvm.MethodName)) ∈ lw_all := lw_g (lw_at lw_m9 91 rfl) rfl
theorem q2080 : (Jvm.Cond.fieldLink "CurtainRiggers$Parser" (7 : Nat) "CurtainRiggers$Parser" "text" "Ljava/lang/CharSequence;") ∈ lw_all := lw_g (lw_at lw_m9 92 rfl) rfl
theorem q2081 : (Jvm.Cond.fieldLink "CurtainRiggers$Parser" (13 : Nat) "CurtainRiggers$Parser" "position" "I") ∈ lw_all := lw_g (lw_at lw_m9 93 rfl) rfl
theorem q2082 : (Jvm.Cond.laysFinal "CurtainRiggers$Parser" "CurtainRiggers$Parser" "text" "Ljava/lang/CharSequence;") ∈ lw_all := lw_g (lw_at lw_m9 94 rfl) rfl
theorem q2083 : (Jvm.Cond.soleField "CurtainRiggers$Parser" "text") ∈ lw_all := lw_g (lw_at lw_m9 95 rfl) rfl
theorem q2084 : (Jvm.Cond.lays "CurtainRiggers$Parser" "CurtainRiggers$Parser" "position" "I") ∈ lw_all := lw_g (lw_at lw_m9 96 rfl) rfl
theorem q2085 : (Jvm.Cond.soleField "CurtainRiggers$Parser" "position") ∈ lw_all := lw_g (lw_at lw_m9 97 rfl) rfl
theorem q2086 : (Jvm.Cond.superclass "CurtainRiggers$Parser" "java/lang/Object") ∈ lw_all := lw_g (lw_at lw_m9 98 rfl) rfl
theorem q2088 : (Jvm.Cond.instanceMethod ({ cls := "CurtainRiggers$Parser", name := "items", desc := "()Ljava/util/ArrayList;" } : Jvm.MethodName)) ∈ lw_all := lw_g (lw_at lw_m9 100 rfl) rfl
theorem q2089 : (Jvm.Cond.selects "CurtainRiggers$Parser" ({ cls := "CurtainRiggers$Parser", name := "items", desc := "()Ljava/util/ArrayList;" } : Jvm.MethodName) ({ cls := "CurtainRiggers$Parser", name := "items", desc := "()Ljava/util/ArrayList;" } : Jvm.MethodName)) ∈ lw_all := lw_g (lw_at lw_m9 101 rfl) rfl
theorem q2090 : (Jvm.Cond.code ({ cls := "CurtainRiggers$Parser", name := "items", desc := "()Ljava/util/ArrayList;" } : Jvm.MethodName) prog_13_method_10_code (4 : Nat) (Option.some (Jvm.ClassFile.FieldType.object "java/util/ArrayList"))) ∈ lw_all := lw_g (lw_at lw_m9 102 rfl) rfl
theorem q2091 : (Jvm.Cond.classLink "CurtainRiggers$Parser" (103 : Nat) "java/util/ArrayList") ∈ lw_all := lw_g (lw_at lw_m9 103 rfl) rfl
theorem q2092 : (Jvm.Cond.methodLink "CurtainRiggers$Parser" (105 : Nat) ({ cls := "java/util/ArrayList", name := "<init>", desc := "()V" } : Jvm.MethodName)) ∈ lw_all := lw_g (lw_at lw_m9 104 rfl) rfl
theorem q2093 : (Jvm.Cond.methodLink "CurtainRiggers$Parser" (106 : Nat) ({ cls := "CurtainRiggers$Parser", name := "item", desc := "()LCurtainRiggers$Change;" } : Jvm.MethodName)) ∈ lw_all := lw_g (lw_at lw_m9 105 rfl) rfl
theorem q2094 : (Jvm.Cond.privateMethod ({ cls := "CurtainRiggers$Parser", name := "item", desc := "()LCurtainRiggers$Change;" } : Jvm.MethodName)) ∈ lw_tbl := lw_at lw_m9 106 rfl
theorem q2095 : (Jvm.Cond.instanceMethod ({ cls := "CurtainRiggers$Parser", name := "item", desc := "()LCurtainRiggers$Change;" } : Jvm.MethodName)) ∈ lw_all := lw_g (lw_at lw_m9 107 rfl) rfl
theorem q2096 : (Jvm.Cond.code ({ cls := "CurtainRiggers$Parser", name := "item", desc := "()LCurtainRiggers$Change;" } : Jvm.MethodName) prog_13_method_9_code (5 : Nat) (Option.some (Jvm.ClassFile.FieldType.object "CurtainRiggers$Change"))) ∈ lw_all := lw_g (lw_at lw_m9 108 rfl) rfl
theorem q2097 : (Jvm.Cond.classLink "CurtainRiggers$Parser" (43 : Nat) "java/lang/String") ∈ lw_all := lw_g (lw_at lw_m9 109 rfl) rfl
theorem q2099 : (Jvm.Cond.stringRef "CurtainRiggers$Parser" (65 : Nat) "hang ") ∈ lw_tbl := lw_at lw_m9 111 rfl
theorem q2100 : (Jvm.Cond.stringRef "CurtainRiggers$Parser" (67 : Nat) "drop ") ∈ lw_tbl := lw_at lw_m9 112 rfl
theorem q2101 : (Jvm.Cond.stringRef "CurtainRiggers$Parser" (69 : Nat) "add ") ∈ lw_tbl := lw_at lw_m9 113 rfl
theorem q2102 : (Jvm.Cond.stringRef "CurtainRiggers$Parser" (71 : Nat) "off ") ∈ lw_tbl := lw_at lw_m9 114 rfl
theorem q2103 : (Jvm.Cond.stringRef "CurtainRiggers$Parser" (73 : Nat) "fly ") ∈ lw_tbl := lw_at lw_m9 115 rfl
theorem q2104 : (Jvm.Cond.stringRef "CurtainRiggers$Parser" (75 : Nat) "go") ∈ lw_tbl := lw_at lw_m9 116 rfl
theorem q2105 : (Jvm.Cond.stringRef "CurtainRiggers$Parser" (77 : Nat) "open ") ∈ lw_tbl := lw_at lw_m9 117 rfl
theorem q2106 : (Jvm.Cond.stringRef "CurtainRiggers$Parser" (79 : Nat) "close ") ∈ lw_tbl := lw_at lw_m9 118 rfl
theorem q2107 : (Jvm.Cond.stringRef "CurtainRiggers$Parser" (81 : Nat) "year") ∈ lw_tbl := lw_at lw_m9 119 rfl
theorem q2108 : (Jvm.Cond.methodLink "CurtainRiggers$Parser" (83 : Nat) ({ cls := "CurtainRiggers$Parser", name := "word", desc := "([Ljava/lang/String;)Ljava/lang/String;" } : Jvm.MethodName)) ∈ lw_all := lw_g (lw_at lw_m9 120 rfl) rfl
theorem q2109 : (Jvm.Cond.privateMethod ({ cls := "CurtainRiggers$Parser", name := "word", desc := "([Ljava/lang/String;)Ljava/lang/String;" } : Jvm.MethodName)) ∈ lw_tbl := lw_at lw_m9 121 rfl
theorem q2110 : (Jvm.Cond.instanceMethod ({ cls := "CurtainRiggers$Parser", name := "word", desc := "([Ljava/lang/String;)Ljava/lang/String;" } : Jvm.MethodName)) ∈ lw_all := lw_g (lw_at lw_m9 122 rfl) rfl
theorem q2111 : (Jvm.Cond.code ({ cls := "CurtainRiggers$Parser", name := "word", desc := "([Ljava/lang/String;)Ljava/lang/String;" } : Jvm.MethodName) prog_13_method_5_code (8 : Nat) (Option.some (Jvm.ClassFile.FieldType.object "java/lang/String"))) ∈ lw_all := lw_g (lw_at lw_m9 123 rfl) rfl
theorem q2112 : (Jvm.Cond.methodLink "CurtainRiggers$Parser" (46 : Nat) ({ cls := "CurtainRiggers$Parser", name := "common", desc := "(Ljava/lang/String;)I" } : Jvm.MethodName)) ∈ lw_all := lw_g (lw_at lw_m9 124 rfl) rfl
theorem q2113 : (Jvm.Cond.privateMethod ({ cls := "CurtainRiggers$Parser", name := "common", desc := "(Ljava/lang/String;)I" } : Jvm.MethodName)) ∈ lw_tbl := lw_at lw_m9 125 rfl
theorem q2114 : (Jvm.Cond.instanceMethod ({ cls := "CurtainRiggers$Parser", name := "common", desc := "(Ljava/lang/String;)I" } : Jvm.MethodName)) ∈ lw_all := lw_g (lw_at lw_m9 126 rfl) rfl
theorem q2115 : (Jvm.Cond.code ({ cls := "CurtainRiggers$Parser", name := "common", desc := "(Ljava/lang/String;)I" } : Jvm.MethodName) prog_13_method_4_code (3 : Nat) (Option.some Jvm.ClassFile.FieldType.int)) ∈ lw_all := lw_g (lw_at lw_m9 127 rfl) rfl
theorem q2116 : (Jvm.Cond.methodLink "CurtainRiggers$Parser" (42 : Nat) ({ cls := "java/lang/String", name := "length", desc := "()I" } : Jvm.MethodName)) ∈ lw_all := lw_g (lw_at lw_m9 128 rfl) rfl
theorem q2117 : (Jvm.Cond.interfaceEntry "CurtainRiggers$Parser" (17 : Nat)) ∈ lw_tbl := lw_at lw_m9 129 rfl
theorem q2118 : (Jvm.Cond.methodLink "CurtainRiggers$Parser" (17 : Nat) ({ cls := "java/lang/CharSequence", name := "length", desc := "()I" } : Jvm.MethodName)) ∈ lw_all := lw_g (lw_at lw_m9 130 rfl) rfl
theorem q2129 : (Jvm.Cond.methodLink "CurtainRiggers$Parser" (45 : Nat) ({ cls := "java/lang/String", name := "charAt", desc := "(I)C" } : Jvm.MethodName)) ∈ lw_all := lw_g (lw_at lw_m9 141 rfl) rfl
theorem q2130 : (Jvm.Cond.interfaceEntry "CurtainRiggers$Parser" (23 : Nat)) ∈ lw_tbl := lw_at lw_m9 142 rfl
theorem q2131 : (Jvm.Cond.methodLink "CurtainRiggers$Parser" (23 : Nat) ({ cls := "java/lang/CharSequence", name := "charAt", desc := "(I)C" } : Jvm.MethodName)) ∈ lw_all := lw_g (lw_at lw_m9 143 rfl) rfl
theorem q2148 : (Jvm.Cond.methodLink "CurtainRiggers$Parser" (50 : Nat) ({ cls := "java/lang/Math", name := "max", desc := "(II)I" } : Jvm.MethodName)) ∈ lw_all := lw_g (lw_at lw_m9 160 rfl) rfl
theorem q2149 : (Jvm.Cond.classLink "CurtainRiggers$Parser" (37 : Nat) "CurtainRiggers$SyntaxException") ∈ lw_all := lw_g (lw_at lw_m9 161 rfl) rfl
theorem q2158 : (Jvm.Cond.methodLink "CurtainRiggers$Parser" (39 : Nat) ({ cls := "CurtainRiggers$SyntaxException", name := "<init>", desc := "(I)V" } : Jvm.MethodName)) ∈ lw_all := lw_g (lw_at lw_m9 170 rfl) rfl
theorem q2168 : (Jvm.Cond.methodLink "CurtainRiggers$Parser" (87 : Nat) ({ cls := "java/lang/String", name := "hashCode", desc := "()I" } : Jvm.MethodName)) ∈ lw_all := lw_g (lw_at lw_m9 180 rfl) rfl
theorem q2169 : (Jvm.Cond.methodLink "CurtainRiggers$Parser" (90 : Nat) ({ cls := "java/lang/String", name := "equals", desc := "(Ljava/lang/Object;)Z" } : Jvm.MethodName)) ∈ lw_all := lw_g (lw_at lw_m9 181 rfl) rfl
theorem q2170 : (Jvm.Cond.classLink "CurtainRiggers$Parser" (94 : Nat) "CurtainRiggers$Change") ∈ lw_all := lw_g (lw_at lw_m9 182 rfl) rfl
theorem q2171 : (Jvm.Cond.methodLink "CurtainRiggers$Parser" (96 : Nat) ({ cls := "CurtainRiggers$Change", name := "<init>", desc := "(Ljava/lang/String;II)V" } : Jvm.MethodName)) ∈ lw_all := lw_g (lw_at lw_m9 183 rfl) rfl
theorem q2172 : (Jvm.Cond.methodLink "CurtainRiggers$Parser" (62 : Nat) ({ cls := "CurtainRiggers$Parser", name := "number", desc := "()I" } : Jvm.MethodName)) ∈ lw_all := lw_g (lw_at lw_m9 184 rfl) rfl
theorem q2173 : (Jvm.Cond.privateMethod ({ cls := "CurtainRiggers$Parser", name := "number", desc := "()I" } : Jvm.MethodName)) ∈ lw_tbl := lw_at lw_m9 185 rfl
theorem q2174 : (Jvm.Cond.instanceMethod ({ cls := "CurtainRiggers$Parser", name := "number", desc := "()I" } : Jvm.MethodName)) ∈ lw_all := lw_g (lw_at lw_m9 186 rfl) rfl
theorem q2175 : (Jvm.Cond.code ({ cls := "CurtainRiggers$Parser", name := "number", desc := "()I" } : Jvm.MethodName) prog_13_method_7_code (2 : Nat) (Option.some Jvm.ClassFile.FieldType.int)) ∈ lw_all := lw_g (lw_at lw_m9 187 rfl) rfl
theorem q2176 : (Jvm.Cond.methodLink "CurtainRiggers$Parser" (59 : Nat) ({ cls := "CurtainRiggers$Parser", name := "digit", desc := "()I" } : Jvm.MethodName)) ∈ lw_all := lw_g (lw_at lw_m9 188 rfl) rfl
theorem q2177 : (Jvm.Cond.privateMethod ({ cls := "CurtainRiggers$Parser", name := "digit", desc := "()I" } : Jvm.MethodName)) ∈ lw_tbl := lw_at lw_m9 189 rfl
theorem q2178 : (Jvm.Cond.instanceMethod ({ cls := "CurtainRiggers$Parser", name := "digit", desc := "()I" } : Jvm.MethodName)) ∈ lw_all := lw_g (lw_at lw_m9 190 rfl) rfl
theorem q2179 : (Jvm.Cond.code ({ cls := "CurtainRiggers$Parser", name := "digit", desc := "()I" } : Jvm.MethodName) prog_13_method_6_code (1 : Nat) (Option.some Jvm.ClassFile.FieldType.int)) ∈ lw_all := lw_g (lw_at lw_m9 191 rfl) rfl
theorem q2180 : (Jvm.Cond.methodLink "CurtainRiggers$Parser" (56 : Nat) ({ cls := "CurtainRiggers$Parser", name := "take", desc := "(II)I" } : Jvm.MethodName)) ∈ lw_all := lw_g (lw_at lw_m9 192 rfl) rfl
theorem q2181 : (Jvm.Cond.privateMethod ({ cls := "CurtainRiggers$Parser", name := "take", desc := "(II)I" } : Jvm.MethodName)) ∈ lw_tbl := lw_at lw_m9 193 rfl
theorem q2182 : (Jvm.Cond.instanceMethod ({ cls := "CurtainRiggers$Parser", name := "take", desc := "(II)I" } : Jvm.MethodName)) ∈ lw_all := lw_g (lw_at lw_m9 194 rfl) rfl
theorem q2183 : (Jvm.Cond.code ({ cls := "CurtainRiggers$Parser", name := "take", desc := "(II)I" } : Jvm.MethodName) prog_13_method_3_code (3 : Nat) (Option.some Jvm.ClassFile.FieldType.int)) ∈ lw_all := lw_g (lw_at lw_m9 195 rfl) rfl
theorem q2184 : (Jvm.Cond.methodLink "CurtainRiggers$Parser" (33 : Nat) ({ cls := "CurtainRiggers$Parser", name := "isNext", desc := "(II)Z" } : Jvm.MethodName)) ∈ lw_all := lw_g (lw_at lw_m9 196 rfl) rfl
theorem q2185 : (Jvm.Cond.privateMethod ({ cls := "CurtainRiggers$Parser", name := "isNext", desc := "(II)Z" } : Jvm.MethodName)) ∈ lw_tbl := lw_at lw_m9 197 rfl
theorem q2186 : (Jvm.Cond.instanceMethod ({ cls := "CurtainRiggers$Parser", name := "isNext", desc := "(II)Z" } : Jvm.MethodName)) ∈ lw_all := lw_g (lw_at lw_m9 198 rfl) rfl
theorem q2187 : (Jvm.Cond.code ({ cls := "CurtainRiggers$Parser", name := "isNext", desc := "(II)Z" } : Jvm.MethodName) prog_13_method_2_code (3 : Nat) (Option.some Jvm.ClassFile.FieldType.boolean)) ∈ lw_all := lw_g (lw_at lw_m9 199 rfl) rfl
theorem q2188 : (Jvm.Cond.methodLinkNest "CurtainRiggers$Parser" (27 : Nat) ({ cls := "CurtainRiggers", name := "inRange", desc := "(JJJ)Z" } : Jvm.MethodName) "CurtainRiggers") ∈ lw_tbl := lw_at lw_m9 200 rfl
theorem q2189 : (Jvm.Cond.methodLink "CurtainRiggers$Parser" (99 : Nat) ({ cls := "CurtainRiggers$Parser", name := "behindBlank", desc := "(Z)I" } : Jvm.MethodName)) ∈ lw_all := lw_g (lw_at lw_m9 201 rfl) rfl
theorem q2190 : (Jvm.Cond.privateMethod ({ cls := "CurtainRiggers$Parser", name := "behindBlank", desc := "(Z)I" } : Jvm.MethodName)) ∈ lw_tbl := lw_at lw_m9 202 rfl
theorem q2191 : (Jvm.Cond.instanceMethod ({ cls := "CurtainRiggers$Parser", name := "behindBlank", desc := "(Z)I" } : Jvm.MethodName)) ∈ lw_all := lw_g (lw_at lw_m9 203 rfl) rfl
theorem q2192 : (Jvm.Cond.code ({ cls := "CurtainRiggers$Parser", name := "behindBlank", desc := "(Z)I" } : Jvm.MethodName) prog_13_method_8_code (3 : Nat) (Option.some Jvm.ClassFile.FieldType.int)) ∈ lw_all := lw_g (lw_at lw_m9 204 rfl) rfl
theorem q2193 : (Jvm.Cond.methodLink "CurtainRiggers$Parser" (110 : Nat) ({ cls := "java/util/ArrayList", name := "add", desc := "(Ljava/lang/Object;)Z" } : Jvm.MethodName)) ∈ lw_all := lw_g (lw_at lw_m9 205 rfl) rfl
theorem q2194 : (Jvm.Cond.stringRef "CurtainRiggers$Parser" (113 : Nat) "; ") ∈ lw_tbl := lw_at lw_m9 206 rfl
theorem q2734 : (Jvm.Cond.castable "CurtainRiggers$Parser" "java/lang/Object") ∈ lw_tbl := lw_at lw_m12 26 rfl
theorem in_X19 : ∀ w ∈ wsX190, w ∈ lw_all := lw_in wsX190 [2082, 2084] (by decide +kernel) (by decide +kernel)

/-! CurtainRiggers$Theatre -/
set_option maxRecDepth 100000
def RX2 : String := "CurtainRiggers$Theatre"
def TX2 : u_T := fun k => match k with
  | 0 => ("CurtainRiggers$Theatre", "bars", "LCurtainRiggers$Row;", false)
  | 1 => ("CurtainRiggers$Theatre", "curtains", "LCurtainRiggers$Row;", false)
  | 2 => ("CurtainRiggers$Theatre", "hands", "LCurtainRiggers$Row;", false)
  | 3 => ("CurtainRiggers$Theatre", "cues", "LCurtainRiggers$Row;", false)
  | 4 => ("CurtainRiggers$Theatre", "isOpen", "[Z", true)
  | 5 => ("CurtainRiggers$Theatre", "told", "I", false)
  | 6 => ("CurtainRiggers$Theatre", "store", "I", false)
  | 7 => ("CurtainRiggers$Theatre", "coins", "I", false)
  | 8 => ("CurtainRiggers$Theatre", "years", "I", false)
  | 9 => ("CurtainRiggers$Theatre", "lastLight", "I", false)
  | 10 => ("CurtainRiggers$Theatre", "played", "I", false)
  | _ => ("CurtainRiggers$Theatre", "flights", "I", false)
def tyX2 : Nat → FieldType := fun k => match k with
  | 0 => .object "CurtainRiggers$Row"
  | 1 => .object "CurtainRiggers$Row"
  | 2 => .object "CurtainRiggers$Row"
  | 3 => .object "CurtainRiggers$Row"
  | 4 => .array .boolean
  | 5 => .int
  | 6 => .int
  | 7 => .int
  | 8 => .int
  | 9 => .int
  | 10 => .int
  | _ => .int
abbrev wsX20 : List Cond := u_ws RX2 TX2 12
theorem nmX2 : ∀ a, a < 12 → ∀ b, b < 12 → a ≠ b → (TX2 a).2.1 ≠ (TX2 b).2.1 := by decide +kernel
theorem tyX2_ok : ∀ k, k < 12 → parseFieldDescriptor (TX2 k).2.2.1 = some (tyX2 k) := by decide +kernel
abbrev cX2_init : ByteArray := prog_18_method_1_code
def yX2_init : MethodName := ⟨RX2, "<init>", "()V"⟩
def dkwX2_init_3 : List UInt8 := [181, 0, 37, 42, 16, 40, 181, 0, 40, 42, 2, 181, 0, 43, 177]
abbrev dktX2_init_3 : List UInt8 := dkwX2_init_3 ++ []
def dkwX2_init_2 : List UInt8 := [16, 12, 183, 0, 11, 181, 0, 26, 42, 7, 188, 4, 181, 0, 29, 42, 16, 15, 181, 0, 33, 42, 16, 60]
abbrev dktX2_init_2 : List UInt8 := dkwX2_init_2 ++ dktX2_init_3
def dkwX2_init_1 : List UInt8 := [183, 0, 11, 181, 0, 20, 42, 187, 0, 9, 89, 16, 6, 183, 0, 11, 181, 0, 23, 42, 187, 0, 9, 89]
abbrev dktX2_init_1 : List UInt8 := dkwX2_init_1 ++ dktX2_init_2
def dkwX2_init_0 : List UInt8 := [42, 183, 0, 3, 42, 187, 0, 9, 89, 16, 8, 183, 0, 11, 181, 0, 14, 42, 187, 0, 9, 89, 16, 12]
abbrev dktX2_init_0 : List UInt8 := dkwX2_init_0 ++ dktX2_init_1
theorem dksX2_init_0 : cX2_init.data.toList.drop 0 = dktX2_init_0 := by decide +kernel
theorem dksX2_init_1 : cX2_init.data.toList.drop 24 = dktX2_init_1 := dk_seg dksX2_init_0 24 rfl rfl
theorem dksX2_init_2 : cX2_init.data.toList.drop 48 = dktX2_init_2 := dk_seg dksX2_init_1 24 rfl rfl
theorem dksX2_init_3 : cX2_init.data.toList.drop 72 = dktX2_init_3 := dk_seg dksX2_init_2 24 rfl rfl
theorem dX2_init_0 : decode cX2_init 0 = .ok (.aload_n 0, 1) := dk_42 (dk_at dksX2_init_0 0 rfl rfl)
theorem dX2_init_1 : decode cX2_init 1 = .ok (.invokespecial 3, 3) := dk_183 0 3 (dk_at dksX2_init_0 1 rfl rfl)
theorem dX2_init_4 : decode cX2_init 4 = .ok (.aload_n 0, 1) := dk_42 (dk_at dksX2_init_0 4 rfl rfl)
theorem dX2_init_5 : decode cX2_init 5 = .ok (.new 9, 3) := dk_187 0 9 (dk_at dksX2_init_0 5 rfl rfl)
theorem dX2_init_8 : decode cX2_init 8 = .ok (.dup, 1) := dk_89 (dk_at dksX2_init_0 8 rfl rfl)
theorem dX2_init_9 : decode cX2_init 9 = .ok (.bipush 8, 2) := dk_16 8 (dk_at dksX2_init_0 9 rfl rfl)
theorem dX2_init_11 : decode cX2_init 11 = .ok (.invokespecial 11, 3) := dk_183 0 11 (dk_at dksX2_init_0 11 rfl rfl)
theorem dX2_init_14 : decode cX2_init 14 = .ok (.putfield 14, 3) := dk_181 0 14 (dk_at dksX2_init_0 14 rfl rfl)
theorem dX2_init_17 : decode cX2_init 17 = .ok (.aload_n 0, 1) := dk_42 (dk_at dksX2_init_0 17 rfl rfl)
theorem dX2_init_18 : decode cX2_init 18 = .ok (.new 9, 3) := dk_187 0 9 (dk_at dksX2_init_0 18 rfl rfl)
theorem dX2_init_21 : decode cX2_init 21 = .ok (.dup, 1) := dk_89 (dk_at dksX2_init_0 21 rfl rfl)
theorem dX2_init_22 : decode cX2_init 22 = .ok (.bipush 12, 2) := dk_16 12 (dk_at dksX2_init_0 22 rfl rfl)
theorem dX2_init_24 : decode cX2_init 24 = .ok (.invokespecial 11, 3) := dk_183 0 11 (dk_at dksX2_init_1 0 rfl rfl)
theorem dX2_init_27 : decode cX2_init 27 = .ok (.putfield 20, 3) := dk_181 0 20 (dk_at dksX2_init_1 3 rfl rfl)
theorem dX2_init_30 : decode cX2_init 30 = .ok (.aload_n 0, 1) := dk_42 (dk_at dksX2_init_1 6 rfl rfl)
theorem dX2_init_31 : decode cX2_init 31 = .ok (.new 9, 3) := dk_187 0 9 (dk_at dksX2_init_1 7 rfl rfl)
theorem dX2_init_34 : decode cX2_init 34 = .ok (.dup, 1) := dk_89 (dk_at dksX2_init_1 10 rfl rfl)
theorem dX2_init_35 : decode cX2_init 35 = .ok (.bipush 6, 2) := dk_16 6 (dk_at dksX2_init_1 11 rfl rfl)
theorem dX2_init_37 : decode cX2_init 37 = .ok (.invokespecial 11, 3) := dk_183 0 11 (dk_at dksX2_init_1 13 rfl rfl)
theorem dX2_init_40 : decode cX2_init 40 = .ok (.putfield 23, 3) := dk_181 0 23 (dk_at dksX2_init_1 16 rfl rfl)
theorem dX2_init_43 : decode cX2_init 43 = .ok (.aload_n 0, 1) := dk_42 (dk_at dksX2_init_1 19 rfl rfl)
theorem dX2_init_44 : decode cX2_init 44 = .ok (.new 9, 3) := dk_187 0 9 (dk_at dksX2_init_1 20 rfl rfl)
theorem dX2_init_47 : decode cX2_init 47 = .ok (.dup, 1) := dk_89 (dk_at dksX2_init_1 23 rfl rfl)
theorem dX2_init_48 : decode cX2_init 48 = .ok (.bipush 12, 2) := dk_16 12 (dk_at dksX2_init_2 0 rfl rfl)
theorem dX2_init_50 : decode cX2_init 50 = .ok (.invokespecial 11, 3) := dk_183 0 11 (dk_at dksX2_init_2 2 rfl rfl)
theorem dX2_init_53 : decode cX2_init 53 = .ok (.putfield 26, 3) := dk_181 0 26 (dk_at dksX2_init_2 5 rfl rfl)
theorem dX2_init_56 : decode cX2_init 56 = .ok (.aload_n 0, 1) := dk_42 (dk_at dksX2_init_2 8 rfl rfl)
theorem dX2_init_57 : decode cX2_init 57 = .ok (.iconst 4, 1) := dk_7 (dk_at dksX2_init_2 9 rfl rfl)
theorem dX2_init_58 : decode cX2_init 58 = .ok (.newarray .boolean, 2) := dk_188_4 (dk_at dksX2_init_2 10 rfl rfl)
theorem dX2_init_60 : decode cX2_init 60 = .ok (.putfield 29, 3) := dk_181 0 29 (dk_at dksX2_init_2 12 rfl rfl)
theorem dX2_init_63 : decode cX2_init 63 = .ok (.aload_n 0, 1) := dk_42 (dk_at dksX2_init_2 15 rfl rfl)
theorem dX2_init_64 : decode cX2_init 64 = .ok (.bipush 15, 2) := dk_16 15 (dk_at dksX2_init_2 16 rfl rfl)
theorem dX2_init_66 : decode cX2_init 66 = .ok (.putfield 33, 3) := dk_181 0 33 (dk_at dksX2_init_2 18 rfl rfl)
theorem dX2_init_69 : decode cX2_init 69 = .ok (.aload_n 0, 1) := dk_42 (dk_at dksX2_init_2 21 rfl rfl)
theorem dX2_init_70 : decode cX2_init 70 = .ok (.bipush 60, 2) := dk_16 60 (dk_at dksX2_init_2 22 rfl rfl)
theorem dX2_init_72 : decode cX2_init 72 = .ok (.putfield 37, 3) := dk_181 0 37 (dk_at dksX2_init_3 0 rfl rfl)
theorem dX2_init_75 : decode cX2_init 75 = .ok (.aload_n 0, 1) := dk_42 (dk_at dksX2_init_3 3 rfl rfl)
theorem dX2_init_76 : decode cX2_init 76 = .ok (.bipush 40, 2) := dk_16 40 (dk_at dksX2_init_3 4 rfl rfl)
theorem dX2_init_78 : decode cX2_init 78 = .ok (.putfield 40, 3) := dk_181 0 40 (dk_at dksX2_init_3 6 rfl rfl)
theorem dX2_init_81 : decode cX2_init 81 = .ok (.aload_n 0, 1) := dk_42 (dk_at dksX2_init_3 9 rfl rfl)
theorem dX2_init_82 : decode cX2_init 82 = .ok (.iconst (-1), 1) := dk_2 (dk_at dksX2_init_3 10 rfl rfl)
theorem dX2_init_83 : decode cX2_init 83 = .ok (.putfield 43, 3) := dk_181 0 43 (dk_at dksX2_init_3 11 rfl rfl)
theorem dX2_init_86 : decode cX2_init 86 = .ok (.return_, 1) := dk_177 (dk_at dksX2_init_3 14 rfl rfl)
abbrev cX2_playable : ByteArray := prog_18_method_34_code
def yX2_playable : MethodName := ⟨RX2, "playable", "()I"⟩
def dkwX2_playable_1 : List UInt8 := [28, 172, 78, 28, 172]
abbrev dktX2_playable_1 : List UInt8 := dkwX2_playable_1 ++ []
def dkwX2_playable_0 : List UInt8 := [42, 182, 1, 50, 76, 3, 61, 28, 16, 12, 163, 0, 14, 43, 182, 1, 53, 62, 132, 2, 1, 167, 255, 242]
abbrev dktX2_playable_0 : List UInt8 := dkwX2_playable_0 ++ dktX2_playable_1
theorem dksX2_playable_0 : cX2_playable.data.toList.drop 0 = dktX2_playable_0 := by decide +kernel
theorem dksX2_playable_1 : cX2_playable.data.toList.drop 24 = dktX2_playable_1 := dk_seg dksX2_playable_0 24 rfl rfl
theorem dX2_playable_0 : decode cX2_playable 0 = .ok (.aload_n 0, 1) := dk_42 (dk_at dksX2_playable_0 0 rfl rfl)
theorem dX2_playable_1 : decode cX2_playable 1 = .ok (.invokevirtual 306, 3) := dk_182 1 50 (dk_at dksX2_playable_0 1 rfl rfl)
theorem dX2_playable_4 : decode cX2_playable 4 = .ok (.astore_n 1, 1) := dk_76 (dk_at dksX2_playable_0 4 rfl rfl)
theorem dX2_playable_5 : decode cX2_playable 5 = .ok (.iconst 0, 1) := dk_3 (dk_at dksX2_playable_0 5 rfl rfl)
theorem dX2_playable_6 : decode cX2_playable 6 = .ok (.istore_n 2, 1) := dk_61 (dk_at dksX2_playable_0 6 rfl rfl)
theorem dX2_playable_7 : decode cX2_playable 7 = .ok (.iload_n 2, 1) := dk_28 (dk_at dksX2_playable_0 7 rfl rfl)
theorem dX2_playable_8 : decode cX2_playable 8 = .ok (.bipush 12, 2) := dk_16 12 (dk_at dksX2_playable_0 8 rfl rfl)
theorem dX2_playable_10 : decode cX2_playable 10 = .ok (.if_icmp .gt 14, 3) := dk_163 0 14 (dk_at dksX2_playable_0 10 rfl rfl)
theorem dX2_playable_13 : decode cX2_playable 13 = .ok (.aload_n 1, 1) := dk_43 (dk_at dksX2_playable_0 13 rfl rfl)
theorem dX2_playable_14 : decode cX2_playable 14 = .ok (.invokevirtual 309, 3) := dk_182 1 53 (dk_at dksX2_playable_0 14 rfl rfl)
theorem dX2_playable_17 : decode cX2_playable 17 = .ok (.istore_n 3, 1) := dk_62 (dk_at dksX2_playable_0 17 rfl rfl)
theorem dX2_playable_18 : decode cX2_playable 18 = .ok (.iinc 2 1, 3) := dk_132 2 1 (dk_at dksX2_playable_0 18 rfl rfl)
theorem dX2_playable_21 : decode cX2_playable 21 = .ok (.goto (-14), 3) := dk_167 255 242 (dk_at dksX2_playable_0 21 rfl rfl)
theorem dX2_playable_24 : decode cX2_playable 24 = .ok (.iload_n 2, 1) := dk_28 (dk_at dksX2_playable_1 0 rfl rfl)
theorem dX2_playable_25 : decode cX2_playable 25 = .ok (.ireturn, 1) := dk_172 (dk_at dksX2_playable_1 1 rfl rfl)
theorem dX2_playable_26 : decode cX2_playable 26 = .ok (.astore_n 3, 1) := dk_78 (dk_at dksX2_playable_1 2 rfl rfl)
theorem dX2_playable_27 : decode cX2_playable 27 = .ok (.iload_n 2, 1) := dk_28 (dk_at dksX2_playable_1 3 rfl rfl)
theorem dX2_playable_28 : decode cX2_playable 28 = .ok (.ireturn, 1) := dk_172 (dk_at dksX2_playable_1 4 rfl rfl)
abbrev cX2_copy : ByteArray := prog_18_method_2_code
def yX2_copy : MethodName := ⟨RX2, "copy", "()LCurtainRiggers$Theatre;"⟩
def dkwX2_copy_5 : List UInt8 := [180, 0, 63, 181, 0, 63, 43, 176]
abbrev dktX2_copy_5 : List UInt8 := dkwX2_copy_5 ++ []
def dkwX2_copy_4 : List UInt8 := [180, 0, 57, 181, 0, 57, 43, 42, 180, 0, 43, 181, 0, 43, 43, 42, 180, 0, 60, 181, 0, 60, 43, 42]
abbrev dktX2_copy_4 : List UInt8 := dkwX2_copy_4 ++ dktX2_copy_5
def dkwX2_copy_3 : List UInt8 := [180, 0, 33, 181, 0, 33, 43, 42, 180, 0, 37, 181, 0, 37, 43, 42, 180, 0, 40, 181, 0, 40, 43, 42]
abbrev dktX2_copy_3 : List UInt8 := dkwX2_copy_3 ++ dktX2_copy_4
def dkwX2_copy_2 : List UInt8 := [182, 0, 47, 181, 0, 26, 42, 180, 0, 29, 3, 43, 180, 0, 29, 3, 7, 184, 0, 51, 43, 42]
abbrev dktX2_copy_2 : List UInt8 := dkwX2_copy_2 ++ dktX2_copy_3
def dkwX2_copy_1 : List UInt8 := [182, 0, 47, 181, 0, 20, 43, 42, 180, 0, 23, 182, 0, 47, 181, 0, 23, 43, 42, 180, 0, 26]
abbrev dktX2_copy_1 : List UInt8 := dkwX2_copy_1 ++ dktX2_copy_2
def dkwX2_copy_0 : List UInt8 := [187, 0, 15, 89, 183, 0, 46, 76, 43, 42, 180, 0, 14, 182, 0, 47, 181, 0, 14, 43, 42, 180, 0, 20]
abbrev dktX2_copy_0 : List UInt8 := dkwX2_copy_0 ++ dktX2_copy_1
theorem dksX2_copy_0 : cX2_copy.data.toList.drop 0 = dktX2_copy_0 := by decide +kernel
theorem dksX2_copy_1 : cX2_copy.data.toList.drop 24 = dktX2_copy_1 := dk_seg dksX2_copy_0 24 rfl rfl
theorem dksX2_copy_2 : cX2_copy.data.toList.drop 46 = dktX2_copy_2 := dk_seg dksX2_copy_1 22 rfl rfl
theorem dksX2_copy_3 : cX2_copy.data.toList.drop 68 = dktX2_copy_3 := dk_seg dksX2_copy_2 22 rfl rfl
theorem dksX2_copy_4 : cX2_copy.data.toList.drop 92 = dktX2_copy_4 := dk_seg dksX2_copy_3 24 rfl rfl
theorem dksX2_copy_5 : cX2_copy.data.toList.drop 116 = dktX2_copy_5 := dk_seg dksX2_copy_4 24 rfl rfl
theorem dX2_copy_0 : decode cX2_copy 0 = .ok (.new 15, 3) := dk_187 0 15 (dk_at dksX2_copy_0 0 rfl rfl)
theorem dX2_copy_3 : decode cX2_copy 3 = .ok (.dup, 1) := dk_89 (dk_at dksX2_copy_0 3 rfl rfl)
theorem dX2_copy_4 : decode cX2_copy 4 = .ok (.invokespecial 46, 3) := dk_183 0 46 (dk_at dksX2_copy_0 4 rfl rfl)
theorem dX2_copy_7 : decode cX2_copy 7 = .ok (.astore_n 1, 1) := dk_76 (dk_at dksX2_copy_0 7 rfl rfl)
theorem dX2_copy_8 : decode cX2_copy 8 = .ok (.aload_n 1, 1) := dk_43 (dk_at dksX2_copy_0 8 rfl rfl)
theorem dX2_copy_9 : decode cX2_copy 9 = .ok (.aload_n 0, 1) := dk_42 (dk_at dksX2_copy_0 9 rfl rfl)
theorem dX2_copy_10 : decode cX2_copy 10 = .ok (.getfield 14, 3) := dk_180 0 14 (dk_at dksX2_copy_0 10 rfl rfl)
theorem dX2_copy_13 : decode cX2_copy 13 = .ok (.invokevirtual 47, 3) := dk_182 0 47 (dk_at dksX2_copy_0 13 rfl rfl)
theorem dX2_copy_16 : decode cX2_copy 16 = .ok (.putfield 14, 3) := dk_181 0 14 (dk_at dksX2_copy_0 16 rfl rfl)
theorem dX2_copy_19 : decode cX2_copy 19 = .ok (.aload_n 1, 1) := dk_43 (dk_at dksX2_copy_0 19 rfl rfl)
theorem dX2_copy_20 : decode cX2_copy 20 = .ok (.aload_n 0, 1) := dk_42 (dk_at dksX2_copy_0 20 rfl rfl)
theorem dX2_copy_21 : decode cX2_copy 21 = .ok (.getfield 20, 3) := dk_180 0 20 (dk_at dksX2_copy_0 21 rfl rfl)
theorem dX2_copy_24 : decode cX2_copy 24 = .ok (.invokevirtual 47, 3) := dk_182 0 47 (dk_at dksX2_copy_1 0 rfl rfl)
theorem dX2_copy_27 : decode cX2_copy 27 = .ok (.putfield 20, 3) := dk_181 0 20 (dk_at dksX2_copy_1 3 rfl rfl)
theorem dX2_copy_30 : decode cX2_copy 30 = .ok (.aload_n 1, 1) := dk_43 (dk_at dksX2_copy_1 6 rfl rfl)
theorem dX2_copy_31 : decode cX2_copy 31 = .ok (.aload_n 0, 1) := dk_42 (dk_at dksX2_copy_1 7 rfl rfl)
theorem dX2_copy_32 : decode cX2_copy 32 = .ok (.getfield 23, 3) := dk_180 0 23 (dk_at dksX2_copy_1 8 rfl rfl)
theorem dX2_copy_35 : decode cX2_copy 35 = .ok (.invokevirtual 47, 3) := dk_182 0 47 (dk_at dksX2_copy_1 11 rfl rfl)
theorem dX2_copy_38 : decode cX2_copy 38 = .ok (.putfield 23, 3) := dk_181 0 23 (dk_at dksX2_copy_1 14 rfl rfl)
theorem dX2_copy_41 : decode cX2_copy 41 = .ok (.aload_n 1, 1) := dk_43 (dk_at dksX2_copy_1 17 rfl rfl)
theorem dX2_copy_42 : decode cX2_copy 42 = .ok (.aload_n 0, 1) := dk_42 (dk_at dksX2_copy_1 18 rfl rfl)
theorem dX2_copy_43 : decode cX2_copy 43 = .ok (.getfield 26, 3) := dk_180 0 26 (dk_at dksX2_copy_1 19 rfl rfl)
theorem dX2_copy_46 : decode cX2_copy 46 = .ok (.invokevirtual 47, 3) := dk_182 0 47 (dk_at dksX2_copy_2 0 rfl rfl)
theorem dX2_copy_49 : decode cX2_copy 49 = .ok (.putfield 26, 3) := dk_181 0 26 (dk_at dksX2_copy_2 3 rfl rfl)
theorem dX2_copy_52 : decode cX2_copy 52 = .ok (.aload_n 0, 1) := dk_42 (dk_at dksX2_copy_2 6 rfl rfl)
theorem dX2_copy_53 : decode cX2_copy 53 = .ok (.getfield 29, 3) := dk_180 0 29 (dk_at dksX2_copy_2 7 rfl rfl)
theorem dX2_copy_56 : decode cX2_copy 56 = .ok (.iconst 0, 1) := dk_3 (dk_at dksX2_copy_2 10 rfl rfl)
theorem dX2_copy_57 : decode cX2_copy 57 = .ok (.aload_n 1, 1) := dk_43 (dk_at dksX2_copy_2 11 rfl rfl)
theorem dX2_copy_58 : decode cX2_copy 58 = .ok (.getfield 29, 3) := dk_180 0 29 (dk_at dksX2_copy_2 12 rfl rfl)
theorem dX2_copy_61 : decode cX2_copy 61 = .ok (.iconst 0, 1) := dk_3 (dk_at dksX2_copy_2 15 rfl rfl)
theorem dX2_copy_62 : decode cX2_copy 62 = .ok (.iconst 4, 1) := dk_7 (dk_at dksX2_copy_2 16 rfl rfl)
theorem dX2_copy_63 : decode cX2_copy 63 = .ok (.invokestatic 51, 3) := dk_184 0 51 (dk_at dksX2_copy_2 17 rfl rfl)
theorem dX2_copy_66 : decode cX2_copy 66 = .ok (.aload_n 1, 1) := dk_43 (dk_at dksX2_copy_2 20 rfl rfl)
theorem dX2_copy_67 : decode cX2_copy 67 = .ok (.aload_n 0, 1) := dk_42 (dk_at dksX2_copy_2 21 rfl rfl)
theorem dX2_copy_68 : decode cX2_copy 68 = .ok (.getfield 33, 3) := dk_180 0 33 (dk_at dksX2_copy_3 0 rfl rfl)
theorem dX2_copy_71 : decode cX2_copy 71 = .ok (.putfield 33, 3) := dk_181 0 33 (dk_at dksX2_copy_3 3 rfl rfl)
theorem dX2_copy_74 : decode cX2_copy 74 = .ok (.aload_n 1, 1) := dk_43 (dk_at dksX2_copy_3 6 rfl rfl)
theorem dX2_copy_75 : decode cX2_copy 75 = .ok (.aload_n 0, 1) := dk_42 (dk_at dksX2_copy_3 7 rfl rfl)
theorem dX2_copy_76 : decode cX2_copy 76 = .ok (.getfield 37, 3) := dk_180 0 37 (dk_at dksX2_copy_3 8 rfl rfl)
theorem dX2_copy_79 : decode cX2_copy 79 = .ok (.putfield 37, 3) := dk_181 0 37 (dk_at dksX2_copy_3 11 rfl rfl)
theorem dX2_copy_82 : decode cX2_copy 82 = .ok (.aload_n 1, 1) := dk_43 (dk_at dksX2_copy_3 14 rfl rfl)
theorem dX2_copy_83 : decode cX2_copy 83 = .ok (.aload_n 0, 1) := dk_42 (dk_at dksX2_copy_3 15 rfl rfl)
theorem dX2_copy_84 : decode cX2_copy 84 = .ok (.getfield 40, 3) := dk_180 0 40 (dk_at dksX2_copy_3 16 rfl rfl)
theorem dX2_copy_87 : decode cX2_copy 87 = .ok (.putfield 40, 3) := dk_181 0 40 (dk_at dksX2_copy_3 19 rfl rfl)
theorem dX2_copy_90 : decode cX2_copy 90 = .ok (.aload_n 1, 1) := dk_43 (dk_at dksX2_copy_3 22 rfl rfl)
theorem dX2_copy_91 : decode cX2_copy 91 = .ok (.aload_n 0, 1) := dk_42 (dk_at dksX2_copy_3 23 rfl rfl)
theorem dX2_copy_92 : decode cX2_copy 92 = .ok (.getfield 57, 3) := dk_180 0 57 (dk_at dksX2_copy_4 0 rfl rfl)
theorem dX2_copy_95 : decode cX2_copy 95 = .ok (.putfield 57, 3) := dk_181 0 57 (dk_at dksX2_copy_4 3 rfl rfl)
theorem dX2_copy_98 : decode cX2_copy 98 = .ok (.aload_n 1, 1) := dk_43 (dk_at dksX2_copy_4 6 rfl rfl)
theorem dX2_copy_99 : decode cX2_copy 99 = .ok (.aload_n 0, 1) := dk_42 (dk_at dksX2_copy_4 7 rfl rfl)
theorem dX2_copy_100 : decode cX2_copy 100 = .ok (.getfield 43, 3) := dk_180 0 43 (dk_at dksX2_copy_4 8 rfl rfl)
theorem dX2_copy_103 : decode cX2_copy 103 = .ok (.putfield 43, 3) := dk_181 0 43 (dk_at dksX2_copy_4 11 rfl rfl)
theorem dX2_copy_106 : decode cX2_copy 106 = .ok (.aload_n 1, 1) := dk_43 (dk_at dksX2_copy_4 14 rfl rfl)
theorem dX2_copy_107 : decode cX2_copy 107 = .ok (.aload_n 0, 1) := dk_42 (dk_at dksX2_copy_4 15 rfl rfl)
theorem dX2_copy_108 : decode cX2_copy 108 = .ok (.getfield 60, 3) := dk_180 0 60 (dk_at dksX2_copy_4 16 rfl rfl)
theorem dX2_copy_111 : decode cX2_copy 111 = .ok (.putfield 60, 3) := dk_181 0 60 (dk_at dksX2_copy_4 19 rfl rfl)
theorem dX2_copy_114 : decode cX2_copy 114 = .ok (.aload_n 1, 1) := dk_43 (dk_at dksX2_copy_4 22 rfl rfl)
theorem dX2_copy_115 : decode cX2_copy 115 = .ok (.aload_n 0, 1) := dk_42 (dk_at dksX2_copy_4 23 rfl rfl)
theorem dX2_copy_116 : decode cX2_copy 116 = .ok (.getfield 63, 3) := dk_180 0 63 (dk_at dksX2_copy_5 0 rfl rfl)
theorem dX2_copy_119 : decode cX2_copy 119 = .ok (.putfield 63, 3) := dk_181 0 63 (dk_at dksX2_copy_5 3 rfl rfl)
theorem dX2_copy_122 : decode cX2_copy 122 = .ok (.aload_n 1, 1) := dk_43 (dk_at dksX2_copy_5 6 rfl rfl)
theorem dX2_copy_123 : decode cX2_copy 123 = .ok (.areturn, 1) := dk_176 (dk_at dksX2_copy_5 7 rfl rfl)
abbrev cX2_go : ByteArray := prog_18_method_33_code
def yX2_go : MethodName := ⟨RX2, "go", "()I"⟩
def dkwX2_go_4 : List UInt8 := [180, 0, 60, 4, 96, 181, 0, 60, 43, 180, 1, 22, 172]
abbrev dktX2_go_4 : List UInt8 := dkwX2_go_4 ++ []
def dkwX2_go_3 : List UInt8 := [184, 0, 102, 42, 44, 43, 180, 1, 35, 182, 1, 17, 62, 42, 43, 180, 1, 22, 181, 0, 43, 42, 89]
abbrev dktX2_go_3 : List UInt8 := dkwX2_go_3 ++ dktX2_go_4
def dkwX2_go_2 : List UInt8 := [44, 43, 180, 1, 35, 182, 1, 7, 62, 29, 43, 180, 1, 28, 163, 0, 7, 4, 167, 0, 4, 3, 8, 29]
abbrev dktX2_go_2 : List UInt8 := dkwX2_go_2 ++ dktX2_go_3
def dkwX2_go_1 : List UInt8 := [184, 0, 102, 42, 180, 0, 14, 43, 180, 1, 25, 182, 0, 161, 192, 0, 72, 77, 42, 44, 182, 1, 0, 42]
abbrev dktX2_go_1 : List UInt8 := dkwX2_go_1 ++ dktX2_go_2
def dkwX2_go_0 : List UInt8 := [42, 182, 1, 46, 76, 43, 198, 0, 7, 4, 167, 0, 4, 3, 16, 10, 42, 180, 0, 26, 182, 0, 135]
abbrev dktX2_go_0 : List UInt8 := dkwX2_go_0 ++ dktX2_go_1
theorem dksX2_go_0 : cX2_go.data.toList.drop 0 = dktX2_go_0 := by decide +kernel
theorem dksX2_go_1 : cX2_go.data.toList.drop 23 = dktX2_go_1 := dk_seg dksX2_go_0 23 rfl rfl
theorem dksX2_go_2 : cX2_go.data.toList.drop 47 = dktX2_go_2 := dk_seg dksX2_go_1 24 rfl rfl
theorem dksX2_go_3 : cX2_go.data.toList.drop 71 = dktX2_go_3 := dk_seg dksX2_go_2 24 rfl rfl
theorem dksX2_go_4 : cX2_go.data.toList.drop 94 = dktX2_go_4 := dk_seg dksX2_go_3 23 rfl rfl
theorem dX2_go_0 : decode cX2_go 0 = .ok (.aload_n 0, 1) := dk_42 (dk_at dksX2_go_0 0 rfl rfl)
theorem dX2_go_1 : decode cX2_go 1 = .ok (.invokevirtual 302, 3) := dk_182 1 46 (dk_at dksX2_go_0 1 rfl rfl)
theorem dX2_go_4 : decode cX2_go 4 = .ok (.astore_n 1, 1) := dk_76 (dk_at dksX2_go_0 4 rfl rfl)
theorem dX2_go_5 : decode cX2_go 5 = .ok (.aload_n 1, 1) := dk_43 (dk_at dksX2_go_0 5 rfl rfl)
theorem dX2_go_6 : decode cX2_go 6 = .ok (.ifnull 7, 3) := dk_198 0 7 (dk_at dksX2_go_0 6 rfl rfl)
theorem dX2_go_9 : decode cX2_go 9 = .ok (.iconst 1, 1) := dk_4 (dk_at dksX2_go_0 9 rfl rfl)
theorem dX2_go_10 : decode cX2_go 10 = .ok (.goto 4, 3) := dk_167 0 4 (dk_at dksX2_go_0 10 rfl rfl)
theorem dX2_go_13 : decode cX2_go 13 = .ok (.iconst 0, 1) := dk_3 (dk_at dksX2_go_0 13 rfl rfl)
theorem dX2_go_14 : decode cX2_go 14 = .ok (.bipush 10, 2) := dk_16 10 (dk_at dksX2_go_0 14 rfl rfl)
theorem dX2_go_16 : decode cX2_go 16 = .ok (.aload_n 0, 1) := dk_42 (dk_at dksX2_go_0 16 rfl rfl)
theorem dX2_go_17 : decode cX2_go 17 = .ok (.getfield 26, 3) := dk_180 0 26 (dk_at dksX2_go_0 17 rfl rfl)
theorem dX2_go_20 : decode cX2_go 20 = .ok (.invokevirtual 135, 3) := dk_182 0 135 (dk_at dksX2_go_0 20 rfl rfl)
theorem dX2_go_23 : decode cX2_go 23 = .ok (.invokestatic 102, 3) := dk_184 0 102 (dk_at dksX2_go_1 0 rfl rfl)
theorem dX2_go_26 : decode cX2_go 26 = .ok (.aload_n 0, 1) := dk_42 (dk_at dksX2_go_1 3 rfl rfl)
theorem dX2_go_27 : decode cX2_go 27 = .ok (.getfield 14, 3) := dk_180 0 14 (dk_at dksX2_go_1 4 rfl rfl)
theorem dX2_go_30 : decode cX2_go 30 = .ok (.aload_n 1, 1) := dk_43 (dk_at dksX2_go_1 7 rfl rfl)
theorem dX2_go_31 : decode cX2_go 31 = .ok (.getfield 281, 3) := dk_180 1 25 (dk_at dksX2_go_1 8 rfl rfl)
theorem dX2_go_34 : decode cX2_go 34 = .ok (.invokevirtual 161, 3) := dk_182 0 161 (dk_at dksX2_go_1 11 rfl rfl)
theorem dX2_go_37 : decode cX2_go 37 = .ok (.checkcast 72, 3) := dk_192 0 72 (dk_at dksX2_go_1 14 rfl rfl)
theorem dX2_go_40 : decode cX2_go 40 = .ok (.astore_n 2, 1) := dk_77 (dk_at dksX2_go_1 17 rfl rfl)
theorem dX2_go_41 : decode cX2_go 41 = .ok (.aload_n 0, 1) := dk_42 (dk_at dksX2_go_1 18 rfl rfl)
theorem dX2_go_42 : decode cX2_go 42 = .ok (.aload_n 2, 1) := dk_44 (dk_at dksX2_go_1 19 rfl rfl)
theorem dX2_go_43 : decode cX2_go 43 = .ok (.invokevirtual 256, 3) := dk_182 1 0 (dk_at dksX2_go_1 20 rfl rfl)
theorem dX2_go_46 : decode cX2_go 46 = .ok (.aload_n 0, 1) := dk_42 (dk_at dksX2_go_1 23 rfl rfl)
theorem dX2_go_47 : decode cX2_go 47 = .ok (.aload_n 2, 1) := dk_44 (dk_at dksX2_go_2 0 rfl rfl)
theorem dX2_go_48 : decode cX2_go 48 = .ok (.aload_n 1, 1) := dk_43 (dk_at dksX2_go_2 1 rfl rfl)
theorem dX2_go_49 : decode cX2_go 49 = .ok (.getfield 291, 3) := dk_180 1 35 (dk_at dksX2_go_2 2 rfl rfl)
theorem dX2_go_52 : decode cX2_go 52 = .ok (.invokevirtual 263, 3) := dk_182 1 7 (dk_at dksX2_go_2 5 rfl rfl)
theorem dX2_go_55 : decode cX2_go 55 = .ok (.istore_n 3, 1) := dk_62 (dk_at dksX2_go_2 8 rfl rfl)
theorem dX2_go_56 : decode cX2_go 56 = .ok (.iload_n 3, 1) := dk_29 (dk_at dksX2_go_2 9 rfl rfl)
theorem dX2_go_57 : decode cX2_go 57 = .ok (.aload_n 1, 1) := dk_43 (dk_at dksX2_go_2 10 rfl rfl)
theorem dX2_go_58 : decode cX2_go 58 = .ok (.getfield 284, 3) := dk_180 1 28 (dk_at dksX2_go_2 11 rfl rfl)
theorem dX2_go_61 : decode cX2_go 61 = .ok (.if_icmp .gt 7, 3) := dk_163 0 7 (dk_at dksX2_go_2 14 rfl rfl)
theorem dX2_go_64 : decode cX2_go 64 = .ok (.iconst 1, 1) := dk_4 (dk_at dksX2_go_2 17 rfl rfl)
theorem dX2_go_65 : decode cX2_go 65 = .ok (.goto 4, 3) := dk_167 0 4 (dk_at dksX2_go_2 18 rfl rfl)
theorem dX2_go_68 : decode cX2_go 68 = .ok (.iconst 0, 1) := dk_3 (dk_at dksX2_go_2 21 rfl rfl)
theorem dX2_go_69 : decode cX2_go 69 = .ok (.iconst 5, 1) := dk_8 (dk_at dksX2_go_2 22 rfl rfl)
theorem dX2_go_70 : decode cX2_go 70 = .ok (.iload_n 3, 1) := dk_29 (dk_at dksX2_go_2 23 rfl rfl)
theorem dX2_go_71 : decode cX2_go 71 = .ok (.invokestatic 102, 3) := dk_184 0 102 (dk_at dksX2_go_3 0 rfl rfl)
theorem dX2_go_74 : decode cX2_go 74 = .ok (.aload_n 0, 1) := dk_42 (dk_at dksX2_go_3 3 rfl rfl)
theorem dX2_go_75 : decode cX2_go 75 = .ok (.aload_n 2, 1) := dk_44 (dk_at dksX2_go_3 4 rfl rfl)
theorem dX2_go_76 : decode cX2_go 76 = .ok (.aload_n 1, 1) := dk_43 (dk_at dksX2_go_3 5 rfl rfl)
theorem dX2_go_77 : decode cX2_go 77 = .ok (.getfield 291, 3) := dk_180 1 35 (dk_at dksX2_go_3 6 rfl rfl)
theorem dX2_go_80 : decode cX2_go 80 = .ok (.invokevirtual 273, 3) := dk_182 1 17 (dk_at dksX2_go_3 9 rfl rfl)
theorem dX2_go_83 : decode cX2_go 83 = .ok (.istore_n 3, 1) := dk_62 (dk_at dksX2_go_3 12 rfl rfl)
theorem dX2_go_84 : decode cX2_go 84 = .ok (.aload_n 0, 1) := dk_42 (dk_at dksX2_go_3 13 rfl rfl)
theorem dX2_go_85 : decode cX2_go 85 = .ok (.aload_n 1, 1) := dk_43 (dk_at dksX2_go_3 14 rfl rfl)
theorem dX2_go_86 : decode cX2_go 86 = .ok (.getfield 278, 3) := dk_180 1 22 (dk_at dksX2_go_3 15 rfl rfl)
theorem dX2_go_89 : decode cX2_go 89 = .ok (.putfield 43, 3) := dk_181 0 43 (dk_at dksX2_go_3 18 rfl rfl)
theorem dX2_go_92 : decode cX2_go 92 = .ok (.aload_n 0, 1) := dk_42 (dk_at dksX2_go_3 21 rfl rfl)
theorem dX2_go_93 : decode cX2_go 93 = .ok (.dup, 1) := dk_89 (dk_at dksX2_go_3 22 rfl rfl)
theorem dX2_go_94 : decode cX2_go 94 = .ok (.getfield 60, 3) := dk_180 0 60 (dk_at dksX2_go_4 0 rfl rfl)
theorem dX2_go_97 : decode cX2_go 97 = .ok (.iconst 1, 1) := dk_4 (dk_at dksX2_go_4 3 rfl rfl)
theorem dX2_go_98 : decode cX2_go 98 = .ok (.iadd, 1) := dk_96 (dk_at dksX2_go_4 4 rfl rfl)
theorem dX2_go_99 : decode cX2_go 99 = .ok (.putfield 60, 3) := dk_181 0 60 (dk_at dksX2_go_4 5 rfl rfl)
theorem dX2_go_102 : decode cX2_go 102 = .ok (.aload_n 1, 1) := dk_43 (dk_at dksX2_go_4 8 rfl rfl)
theorem dX2_go_103 : decode cX2_go 103 = .ok (.getfield 278, 3) := dk_180 1 22 (dk_at dksX2_go_4 9 rfl rfl)
theorem dX2_go_106 : decode cX2_go 106 = .ok (.ireturn, 1) := dk_172 (dk_at dksX2_go_4 12 rfl rfl)
abbrev cX2_nextCue : ByteArray := prog_18_method_32_code
def yX2_nextCue : MethodName := ⟨RX2, "nextCue", "()LCurtainRiggers$Cue;"⟩
def dkwX2_nextCue_0 : List UInt8 := [42, 42, 180, 0, 43, 182, 1, 42, 187, 1, 36, 89, 183, 1, 38, 184, 0, 193, 192, 1, 20, 176]
abbrev dktX2_nextCue_0 : List UInt8 := dkwX2_nextCue_0 ++ []
theorem dksX2_nextCue_0 : cX2_nextCue.data.toList.drop 0 = dktX2_nextCue_0 := by decide +kernel
theorem dX2_nextCue_0 : decode cX2_nextCue 0 = .ok (.aload_n 0, 1) := dk_42 (dk_at dksX2_nextCue_0 0 rfl rfl)
theorem dX2_nextCue_1 : decode cX2_nextCue 1 = .ok (.aload_n 0, 1) := dk_42 (dk_at dksX2_nextCue_0 1 rfl rfl)
theorem dX2_nextCue_2 : decode cX2_nextCue 2 = .ok (.getfield 43, 3) := dk_180 0 43 (dk_at dksX2_nextCue_0 2 rfl rfl)
theorem dX2_nextCue_5 : decode cX2_nextCue 5 = .ok (.invokevirtual 298, 3) := dk_182 1 42 (dk_at dksX2_nextCue_0 5 rfl rfl)
theorem dX2_nextCue_8 : decode cX2_nextCue 8 = .ok (.new 292, 3) := dk_187 1 36 (dk_at dksX2_nextCue_0 8 rfl rfl)
theorem dX2_nextCue_11 : decode cX2_nextCue 11 = .ok (.dup, 1) := dk_89 (dk_at dksX2_nextCue_0 11 rfl rfl)
theorem dX2_nextCue_12 : decode cX2_nextCue 12 = .ok (.invokespecial 294, 3) := dk_183 1 38 (dk_at dksX2_nextCue_0 12 rfl rfl)
theorem dX2_nextCue_15 : decode cX2_nextCue 15 = .ok (.invokestatic 193, 3) := dk_184 0 193 (dk_at dksX2_nextCue_0 15 rfl rfl)
theorem dX2_nextCue_18 : decode cX2_nextCue 18 = .ok (.checkcast 276, 3) := dk_192 1 20 (dk_at dksX2_nextCue_0 18 rfl rfl)
theorem dX2_nextCue_21 : decode cX2_nextCue 21 = .ok (.areturn, 1) := dk_176 (dk_at dksX2_nextCue_0 21 rfl rfl)
abbrev cX2_cuesAbove : ByteArray := prog_18_method_31_code
def yX2_cuesAbove : MethodName := ⟨RX2, "cuesAbove", "(I)Ljava/util/ArrayList;"⟩
def dkwX2_cuesAbove_4 : List UInt8 := [25, 5, 182, 0, 208, 167, 255, 181, 45, 176]
abbrev dktX2_cuesAbove_4 : List UInt8 := dkwX2_cuesAbove_4 ++ []
def dkwX2_cuesAbove_3 : List UInt8 := [182, 1, 39, 153, 0, 9, 132, 6, 1, 167, 255, 226, 25, 5, 180, 1, 22, 27, 164, 0, 11, 45, 21, 6]
abbrev dktX2_cuesAbove_3 : List UInt8 := dkwX2_cuesAbove_3 ++ dktX2_cuesAbove_4
def dkwX2_cuesAbove_2 : List UInt8 := [3, 54, 6, 21, 6, 45, 182, 0, 200, 162, 0, 27, 44, 45, 21, 6, 182, 0, 201, 192, 1, 20, 25, 5]
abbrev dktX2_cuesAbove_2 : List UInt8 := dkwX2_cuesAbove_2 ++ dktX2_cuesAbove_3
def dkwX2_cuesAbove_1 : List UInt8 := [58, 4, 25, 4, 185, 0, 114, 1, 0, 153, 0, 71, 25, 4, 185, 0, 120, 1, 0, 192, 1, 20, 58, 5]
abbrev dktX2_cuesAbove_1 : List UInt8 := dkwX2_cuesAbove_1 ++ dktX2_cuesAbove_2
def dkwX2_cuesAbove_0 : List UInt8 := [187, 1, 36, 89, 183, 1, 38, 77, 187, 0, 175, 89, 183, 0, 177, 78, 42, 180, 0, 26, 182, 0, 110]
abbrev dktX2_cuesAbove_0 : List UInt8 := dkwX2_cuesAbove_0 ++ dktX2_cuesAbove_1
theorem dksX2_cuesAbove_0 : cX2_cuesAbove.data.toList.drop 0 = dktX2_cuesAbove_0 := by decide +kernel
theorem dksX2_cuesAbove_1 : cX2_cuesAbove.data.toList.drop 23 = dktX2_cuesAbove_1 := dk_seg dksX2_cuesAbove_0 23 rfl rfl
theorem dksX2_cuesAbove_2 : cX2_cuesAbove.data.toList.drop 47 = dktX2_cuesAbove_2 := dk_seg dksX2_cuesAbove_1 24 rfl rfl
theorem dksX2_cuesAbove_3 : cX2_cuesAbove.data.toList.drop 71 = dktX2_cuesAbove_3 := dk_seg dksX2_cuesAbove_2 24 rfl rfl
theorem dksX2_cuesAbove_4 : cX2_cuesAbove.data.toList.drop 95 = dktX2_cuesAbove_4 := dk_seg dksX2_cuesAbove_3 24 rfl rfl
theorem dX2_cuesAbove_0 : decode cX2_cuesAbove 0 = .ok (.new 292, 3) := dk_187 1 36 (dk_at dksX2_cuesAbove_0 0 rfl rfl)
theorem dX2_cuesAbove_3 : decode cX2_cuesAbove 3 = .ok (.dup, 1) := dk_89 (dk_at dksX2_cuesAbove_0 3 rfl rfl)
theorem dX2_cuesAbove_4 : decode cX2_cuesAbove 4 = .ok (.invokespecial 294, 3) := dk_183 1 38 (dk_at dksX2_cuesAbove_0 4 rfl rfl)
theorem dX2_cuesAbove_7 : decode cX2_cuesAbove 7 = .ok (.astore_n 2, 1) := dk_77 (dk_at dksX2_cuesAbove_0 7 rfl rfl)
theorem dX2_cuesAbove_8 : decode cX2_cuesAbove 8 = .ok (.new 175, 3) := dk_187 0 175 (dk_at dksX2_cuesAbove_0 8 rfl rfl)
theorem dX2_cuesAbove_11 : decode cX2_cuesAbove 11 = .ok (.dup, 1) := dk_89 (dk_at dksX2_cuesAbove_0 11 rfl rfl)
theorem dX2_cuesAbove_12 : decode cX2_cuesAbove 12 = .ok (.invokespecial 177, 3) := dk_183 0 177 (dk_at dksX2_cuesAbove_0 12 rfl rfl)
theorem dX2_cuesAbove_15 : decode cX2_cuesAbove 15 = .ok (.astore_n 3, 1) := dk_78 (dk_at dksX2_cuesAbove_0 15 rfl rfl)
theorem dX2_cuesAbove_16 : decode cX2_cuesAbove 16 = .ok (.aload_n 0, 1) := dk_42 (dk_at dksX2_cuesAbove_0 16 rfl rfl)
theorem dX2_cuesAbove_17 : decode cX2_cuesAbove 17 = .ok (.getfield 26, 3) := dk_180 0 26 (dk_at dksX2_cuesAbove_0 17 rfl rfl)
theorem dX2_cuesAbove_20 : decode cX2_cuesAbove 20 = .ok (.invokevirtual 110, 3) := dk_182 0 110 (dk_at dksX2_cuesAbove_0 20 rfl rfl)
theorem dX2_cuesAbove_23 : decode cX2_cuesAbove 23 = .ok (.astore 4, 2) := dk_58 4 (dk_at dksX2_cuesAbove_1 0 rfl rfl)
theorem dX2_cuesAbove_25 : decode cX2_cuesAbove 25 = .ok (.aload 4, 2) := dk_25 4 (dk_at dksX2_cuesAbove_1 2 rfl rfl)
theorem dX2_cuesAbove_27 : decode cX2_cuesAbove 27 = .ok (.invokeinterface 114 1, 5) := by decide +kernel
theorem dX2_cuesAbove_32 : decode cX2_cuesAbove 32 = .ok (.ifCond .eq 71, 3) := dk_153 0 71 (dk_at dksX2_cuesAbove_1 9 rfl rfl)
theorem dX2_cuesAbove_35 : decode cX2_cuesAbove 35 = .ok (.aload 4, 2) := dk_25 4 (dk_at dksX2_cuesAbove_1 12 rfl rfl)
theorem dX2_cuesAbove_37 : decode cX2_cuesAbove 37 = .ok (.invokeinterface 120 1, 5) := by decide +kernel
theorem dX2_cuesAbove_42 : decode cX2_cuesAbove 42 = .ok (.checkcast 276, 3) := dk_192 1 20 (dk_at dksX2_cuesAbove_1 19 rfl rfl)
theorem dX2_cuesAbove_45 : decode cX2_cuesAbove 45 = .ok (.astore 5, 2) := dk_58 5 (dk_at dksX2_cuesAbove_1 22 rfl rfl)
theorem dX2_cuesAbove_47 : decode cX2_cuesAbove 47 = .ok (.iconst 0, 1) := dk_3 (dk_at dksX2_cuesAbove_2 0 rfl rfl)
theorem dX2_cuesAbove_48 : decode cX2_cuesAbove 48 = .ok (.istore 6, 2) := dk_54 6 (dk_at dksX2_cuesAbove_2 1 rfl rfl)
theorem dX2_cuesAbove_50 : decode cX2_cuesAbove 50 = .ok (.iload 6, 2) := dk_21 6 (dk_at dksX2_cuesAbove_2 3 rfl rfl)
theorem dX2_cuesAbove_52 : decode cX2_cuesAbove 52 = .ok (.aload_n 3, 1) := dk_45 (dk_at dksX2_cuesAbove_2 5 rfl rfl)
theorem dX2_cuesAbove_53 : decode cX2_cuesAbove 53 = .ok (.invokevirtual 200, 3) := dk_182 0 200 (dk_at dksX2_cuesAbove_2 6 rfl rfl)
theorem dX2_cuesAbove_56 : decode cX2_cuesAbove 56 = .ok (.if_icmp .ge 27, 3) := dk_162 0 27 (dk_at dksX2_cuesAbove_2 9 rfl rfl)
theorem dX2_cuesAbove_59 : decode cX2_cuesAbove 59 = .ok (.aload_n 2, 1) := dk_44 (dk_at dksX2_cuesAbove_2 12 rfl rfl)
theorem dX2_cuesAbove_60 : decode cX2_cuesAbove 60 = .ok (.aload_n 3, 1) := dk_45 (dk_at dksX2_cuesAbove_2 13 rfl rfl)
theorem dX2_cuesAbove_61 : decode cX2_cuesAbove 61 = .ok (.iload 6, 2) := dk_21 6 (dk_at dksX2_cuesAbove_2 14 rfl rfl)
theorem dX2_cuesAbove_63 : decode cX2_cuesAbove 63 = .ok (.invokevirtual 201, 3) := dk_182 0 201 (dk_at dksX2_cuesAbove_2 16 rfl rfl)
theorem dX2_cuesAbove_66 : decode cX2_cuesAbove 66 = .ok (.checkcast 276, 3) := dk_192 1 20 (dk_at dksX2_cuesAbove_2 19 rfl rfl)
theorem dX2_cuesAbove_69 : decode cX2_cuesAbove 69 = .ok (.aload 5, 2) := dk_25 5 (dk_at dksX2_cuesAbove_2 22 rfl rfl)
theorem dX2_cuesAbove_71 : decode cX2_cuesAbove 71 = .ok (.invokevirtual 295, 3) := dk_182 1 39 (dk_at dksX2_cuesAbove_3 0 rfl rfl)
theorem dX2_cuesAbove_74 : decode cX2_cuesAbove 74 = .ok (.ifCond .eq 9, 3) := dk_153 0 9 (dk_at dksX2_cuesAbove_3 3 rfl rfl)
theorem dX2_cuesAbove_77 : decode cX2_cuesAbove 77 = .ok (.iinc 6 1, 3) := dk_132 6 1 (dk_at dksX2_cuesAbove_3 6 rfl rfl)
theorem dX2_cuesAbove_80 : decode cX2_cuesAbove 80 = .ok (.goto (-30), 3) := dk_167 255 226 (dk_at dksX2_cuesAbove_3 9 rfl rfl)
theorem dX2_cuesAbove_83 : decode cX2_cuesAbove 83 = .ok (.aload 5, 2) := dk_25 5 (dk_at dksX2_cuesAbove_3 12 rfl rfl)
theorem dX2_cuesAbove_85 : decode cX2_cuesAbove 85 = .ok (.getfield 278, 3) := dk_180 1 22 (dk_at dksX2_cuesAbove_3 14 rfl rfl)
theorem dX2_cuesAbove_88 : decode cX2_cuesAbove 88 = .ok (.iload_n 1, 1) := dk_27 (dk_at dksX2_cuesAbove_3 17 rfl rfl)
theorem dX2_cuesAbove_89 : decode cX2_cuesAbove 89 = .ok (.if_icmp .le 11, 3) := dk_164 0 11 (dk_at dksX2_cuesAbove_3 18 rfl rfl)
theorem dX2_cuesAbove_92 : decode cX2_cuesAbove 92 = .ok (.aload_n 3, 1) := dk_45 (dk_at dksX2_cuesAbove_3 21 rfl rfl)
theorem dX2_cuesAbove_93 : decode cX2_cuesAbove 93 = .ok (.iload 6, 2) := dk_21 6 (dk_at dksX2_cuesAbove_3 22 rfl rfl)
theorem dX2_cuesAbove_95 : decode cX2_cuesAbove 95 = .ok (.aload 5, 2) := dk_25 5 (dk_at dksX2_cuesAbove_4 0 rfl rfl)
theorem dX2_cuesAbove_97 : decode cX2_cuesAbove 97 = .ok (.invokevirtual 208, 3) := dk_182 0 208 (dk_at dksX2_cuesAbove_4 2 rfl rfl)
theorem dX2_cuesAbove_100 : decode cX2_cuesAbove 100 = .ok (.goto (-75), 3) := dk_167 255 181 (dk_at dksX2_cuesAbove_4 5 rfl rfl)
theorem dX2_cuesAbove_103 : decode cX2_cuesAbove 103 = .ok (.aload_n 3, 1) := dk_45 (dk_at dksX2_cuesAbove_4 8 rfl rfl)
theorem dX2_cuesAbove_104 : decode cX2_cuesAbove 104 = .ok (.areturn, 1) := dk_176 (dk_at dksX2_cuesAbove_4 9 rfl rfl)
abbrev cX2_checkFlight : ByteArray := prog_18_method_25_code
def yX2_checkFlight : MethodName := ⟨RX2, "checkFlight", "(LCurtainRiggers$Bar;)V"⟩
def dkwX2_checkFlight_3 : List UInt8 := [4, 167, 0, 4, 3, 7, 28, 184, 0, 102, 177]
abbrev dktX2_checkFlight_3 : List UInt8 := dkwX2_checkFlight_3 ++ []
def dkwX2_checkFlight_2 : List UInt8 := [182, 0, 128, 100, 184, 0, 102, 42, 43, 182, 0, 254, 182, 0, 229, 61, 28, 43, 182, 0, 251, 161, 0, 7]
abbrev dktX2_checkFlight_2 : List UInt8 := dkwX2_checkFlight_2 ++ dktX2_checkFlight_3
def dkwX2_checkFlight_1 : List UInt8 := [43, 182, 0, 124, 43, 182, 0, 128, 163, 0, 7, 4, 167, 0, 4, 3, 5, 43, 182, 0, 124, 43]
abbrev dktX2_checkFlight_1 : List UInt8 := dkwX2_checkFlight_1 ++ dktX2_checkFlight_2
def dkwX2_checkFlight_0 : List UInt8 := [43, 182, 0, 251, 42, 180, 0, 33, 163, 0, 7, 4, 167, 0, 4, 3, 6, 43, 182, 0, 251, 184, 0, 102]
abbrev dktX2_checkFlight_0 : List UInt8 := dkwX2_checkFlight_0 ++ dktX2_checkFlight_1
theorem dksX2_checkFlight_0 : cX2_checkFlight.data.toList.drop 0 = dktX2_checkFlight_0 := by decide +kernel
theorem dksX2_checkFlight_1 : cX2_checkFlight.data.toList.drop 24 = dktX2_checkFlight_1 := dk_seg dksX2_checkFlight_0 24 rfl rfl
theorem dksX2_checkFlight_2 : cX2_checkFlight.data.toList.drop 46 = dktX2_checkFlight_2 := dk_seg dksX2_checkFlight_1 22 rfl rfl
theorem dksX2_checkFlight_3 : cX2_checkFlight.data.toList.drop 70 = dktX2_checkFlight_3 := dk_seg dksX2_checkFlight_2 24 rfl rfl
theorem dX2_checkFlight_0 : decode cX2_checkFlight 0 = .ok (.aload_n 1, 1) := dk_43 (dk_at dksX2_checkFlight_0 0 rfl rfl)
theorem dX2_checkFlight_1 : decode cX2_checkFlight 1 = .ok (.invokevirtual 251, 3) := dk_182 0 251 (dk_at dksX2_checkFlight_0 1 rfl rfl)
theorem dX2_checkFlight_4 : decode cX2_checkFlight 4 = .ok (.aload_n 0, 1) := dk_42 (dk_at dksX2_checkFlight_0 4 rfl rfl)
theorem dX2_checkFlight_5 : decode cX2_checkFlight 5 = .ok (.getfield 33, 3) := dk_180 0 33 (dk_at dksX2_checkFlight_0 5 rfl rfl)
theorem dX2_checkFlight_8 : decode cX2_checkFlight 8 = .ok (.if_icmp .gt 7, 3) := dk_163 0 7 (dk_at dksX2_checkFlight_0 8 rfl rfl)
theorem dX2_checkFlight_11 : decode cX2_checkFlight 11 = .ok (.iconst 1, 1) := dk_4 (dk_at dksX2_checkFlight_0 11 rfl rfl)
theorem dX2_checkFlight_12 : decode cX2_checkFlight 12 = .ok (.goto 4, 3) := dk_167 0 4 (dk_at dksX2_checkFlight_0 12 rfl rfl)
theorem dX2_checkFlight_15 : decode cX2_checkFlight 15 = .ok (.iconst 0, 1) := dk_3 (dk_at dksX2_checkFlight_0 15 rfl rfl)
theorem dX2_checkFlight_16 : decode cX2_checkFlight 16 = .ok (.iconst 3, 1) := dk_6 (dk_at dksX2_checkFlight_0 16 rfl rfl)
theorem dX2_checkFlight_17 : decode cX2_checkFlight 17 = .ok (.aload_n 1, 1) := dk_43 (dk_at dksX2_checkFlight_0 17 rfl rfl)
theorem dX2_checkFlight_18 : decode cX2_checkFlight 18 = .ok (.invokevirtual 251, 3) := dk_182 0 251 (dk_at dksX2_checkFlight_0 18 rfl rfl)
theorem dX2_checkFlight_21 : decode cX2_checkFlight 21 = .ok (.invokestatic 102, 3) := dk_184 0 102 (dk_at dksX2_checkFlight_0 21 rfl rfl)
theorem dX2_checkFlight_24 : decode cX2_checkFlight 24 = .ok (.aload_n 1, 1) := dk_43 (dk_at dksX2_checkFlight_1 0 rfl rfl)
theorem dX2_checkFlight_25 : decode cX2_checkFlight 25 = .ok (.invokevirtual 124, 3) := dk_182 0 124 (dk_at dksX2_checkFlight_1 1 rfl rfl)
theorem dX2_checkFlight_28 : decode cX2_checkFlight 28 = .ok (.aload_n 1, 1) := dk_43 (dk_at dksX2_checkFlight_1 4 rfl rfl)
theorem dX2_checkFlight_29 : decode cX2_checkFlight 29 = .ok (.invokevirtual 128, 3) := dk_182 0 128 (dk_at dksX2_checkFlight_1 5 rfl rfl)
theorem dX2_checkFlight_32 : decode cX2_checkFlight 32 = .ok (.if_icmp .gt 7, 3) := dk_163 0 7 (dk_at dksX2_checkFlight_1 8 rfl rfl)
theorem dX2_checkFlight_35 : decode cX2_checkFlight 35 = .ok (.iconst 1, 1) := dk_4 (dk_at dksX2_checkFlight_1 11 rfl rfl)
theorem dX2_checkFlight_36 : decode cX2_checkFlight 36 = .ok (.goto 4, 3) := dk_167 0 4 (dk_at dksX2_checkFlight_1 12 rfl rfl)
theorem dX2_checkFlight_39 : decode cX2_checkFlight 39 = .ok (.iconst 0, 1) := dk_3 (dk_at dksX2_checkFlight_1 15 rfl rfl)
theorem dX2_checkFlight_40 : decode cX2_checkFlight 40 = .ok (.iconst 2, 1) := dk_5 (dk_at dksX2_checkFlight_1 16 rfl rfl)
theorem dX2_checkFlight_41 : decode cX2_checkFlight 41 = .ok (.aload_n 1, 1) := dk_43 (dk_at dksX2_checkFlight_1 17 rfl rfl)
theorem dX2_checkFlight_42 : decode cX2_checkFlight 42 = .ok (.invokevirtual 124, 3) := dk_182 0 124 (dk_at dksX2_checkFlight_1 18 rfl rfl)
theorem dX2_checkFlight_45 : decode cX2_checkFlight 45 = .ok (.aload_n 1, 1) := dk_43 (dk_at dksX2_checkFlight_1 21 rfl rfl)
theorem dX2_checkFlight_46 : decode cX2_checkFlight 46 = .ok (.invokevirtual 128, 3) := dk_182 0 128 (dk_at dksX2_checkFlight_2 0 rfl rfl)
theorem dX2_checkFlight_49 : decode cX2_checkFlight 49 = .ok (.isub, 1) := dk_100 (dk_at dksX2_checkFlight_2 3 rfl rfl)
theorem dX2_checkFlight_50 : decode cX2_checkFlight 50 = .ok (.invokestatic 102, 3) := dk_184 0 102 (dk_at dksX2_checkFlight_2 4 rfl rfl)
theorem dX2_checkFlight_53 : decode cX2_checkFlight 53 = .ok (.aload_n 0, 1) := dk_42 (dk_at dksX2_checkFlight_2 7 rfl rfl)
theorem dX2_checkFlight_54 : decode cX2_checkFlight 54 = .ok (.aload_n 1, 1) := dk_43 (dk_at dksX2_checkFlight_2 8 rfl rfl)
theorem dX2_checkFlight_55 : decode cX2_checkFlight 55 = .ok (.invokevirtual 254, 3) := dk_182 0 254 (dk_at dksX2_checkFlight_2 9 rfl rfl)
theorem dX2_checkFlight_58 : decode cX2_checkFlight 58 = .ok (.invokevirtual 229, 3) := dk_182 0 229 (dk_at dksX2_checkFlight_2 12 rfl rfl)
theorem dX2_checkFlight_61 : decode cX2_checkFlight 61 = .ok (.istore_n 2, 1) := dk_61 (dk_at dksX2_checkFlight_2 15 rfl rfl)
theorem dX2_checkFlight_62 : decode cX2_checkFlight 62 = .ok (.iload_n 2, 1) := dk_28 (dk_at dksX2_checkFlight_2 16 rfl rfl)
theorem dX2_checkFlight_63 : decode cX2_checkFlight 63 = .ok (.aload_n 1, 1) := dk_43 (dk_at dksX2_checkFlight_2 17 rfl rfl)
theorem dX2_checkFlight_64 : decode cX2_checkFlight 64 = .ok (.invokevirtual 251, 3) := dk_182 0 251 (dk_at dksX2_checkFlight_2 18 rfl rfl)
theorem dX2_checkFlight_67 : decode cX2_checkFlight 67 = .ok (.if_icmp .lt 7, 3) := dk_161 0 7 (dk_at dksX2_checkFlight_2 21 rfl rfl)
theorem dX2_checkFlight_70 : decode cX2_checkFlight 70 = .ok (.iconst 1, 1) := dk_4 (dk_at dksX2_checkFlight_3 0 rfl rfl)
theorem dX2_checkFlight_71 : decode cX2_checkFlight 71 = .ok (.goto 4, 3) := dk_167 0 4 (dk_at dksX2_checkFlight_3 1 rfl rfl)
theorem dX2_checkFlight_74 : decode cX2_checkFlight 74 = .ok (.iconst 0, 1) := dk_3 (dk_at dksX2_checkFlight_3 4 rfl rfl)
theorem dX2_checkFlight_75 : decode cX2_checkFlight 75 = .ok (.iconst 4, 1) := dk_7 (dk_at dksX2_checkFlight_3 5 rfl rfl)
theorem dX2_checkFlight_76 : decode cX2_checkFlight 76 = .ok (.iload_n 2, 1) := dk_28 (dk_at dksX2_checkFlight_3 6 rfl rfl)
theorem dX2_checkFlight_77 : decode cX2_checkFlight 77 = .ok (.invokestatic 102, 3) := dk_184 0 102 (dk_at dksX2_checkFlight_3 7 rfl rfl)
theorem dX2_checkFlight_80 : decode cX2_checkFlight 80 = .ok (.return_, 1) := dk_177 (dk_at dksX2_checkFlight_3 10 rfl rfl)
abbrev cX2_strength : ByteArray := prog_18_method_20_code
def yX2_strength : MethodName := ⟨RX2, "strength", "(I)I"⟩
def dkwX2_strength_0 : List UInt8 := [42, 180, 0, 23, 187, 0, 233, 89, 42, 27, 183, 0, 235, 184, 0, 81, 172]
abbrev dktX2_strength_0 : List UInt8 := dkwX2_strength_0 ++ []
theorem dksX2_strength_0 : cX2_strength.data.toList.drop 0 = dktX2_strength_0 := by decide +kernel
theorem dX2_strength_0 : decode cX2_strength 0 = .ok (.aload_n 0, 1) := dk_42 (dk_at dksX2_strength_0 0 rfl rfl)
theorem dX2_strength_1 : decode cX2_strength 1 = .ok (.getfield 23, 3) := dk_180 0 23 (dk_at dksX2_strength_0 1 rfl rfl)
theorem dX2_strength_4 : decode cX2_strength 4 = .ok (.new 233, 3) := dk_187 0 233 (dk_at dksX2_strength_0 4 rfl rfl)
theorem dX2_strength_7 : decode cX2_strength 7 = .ok (.dup, 1) := dk_89 (dk_at dksX2_strength_0 7 rfl rfl)
theorem dX2_strength_8 : decode cX2_strength 8 = .ok (.aload_n 0, 1) := dk_42 (dk_at dksX2_strength_0 8 rfl rfl)
theorem dX2_strength_9 : decode cX2_strength 9 = .ok (.iload_n 1, 1) := dk_27 (dk_at dksX2_strength_0 9 rfl rfl)
theorem dX2_strength_10 : decode cX2_strength 10 = .ok (.invokespecial 235, 3) := dk_183 0 235 (dk_at dksX2_strength_0 10 rfl rfl)
theorem dX2_strength_13 : decode cX2_strength 13 = .ok (.invokestatic 81, 3) := dk_184 0 81 (dk_at dksX2_strength_0 13 rfl rfl)
theorem dX2_strength_16 : decode cX2_strength 16 = .ok (.ireturn, 1) := dk_172 (dk_at dksX2_strength_0 16 rfl rfl)
abbrev cX2_noise : ByteArray := prog_18_method_23_code
def yX2_noise : MethodName := ⟨RX2, "noise", "(LCurtainRiggers$Bar;I)I"⟩
def dkwX2_noise_1 : List UInt8 := [96, 172]
abbrev dktX2_noise_1 : List UInt8 := dkwX2_noise_1 ++ []
def dkwX2_noise_0 : List UInt8 := [28, 43, 180, 0, 181, 100, 184, 0, 246, 7, 108, 43, 180, 0, 101, 6, 108, 96, 5, 42, 182, 0, 243, 104]
abbrev dktX2_noise_0 : List UInt8 := dkwX2_noise_0 ++ dktX2_noise_1
theorem dksX2_noise_0 : cX2_noise.data.toList.drop 0 = dktX2_noise_0 := by decide +kernel
theorem dksX2_noise_1 : cX2_noise.data.toList.drop 24 = dktX2_noise_1 := dk_seg dksX2_noise_0 24 rfl rfl
theorem dX2_noise_0 : decode cX2_noise 0 = .ok (.iload_n 2, 1) := dk_28 (dk_at dksX2_noise_0 0 rfl rfl)
theorem dX2_noise_1 : decode cX2_noise 1 = .ok (.aload_n 1, 1) := dk_43 (dk_at dksX2_noise_0 1 rfl rfl)
theorem dX2_noise_2 : decode cX2_noise 2 = .ok (.getfield 181, 3) := dk_180 0 181 (dk_at dksX2_noise_0 2 rfl rfl)
theorem dX2_noise_5 : decode cX2_noise 5 = .ok (.isub, 1) := dk_100 (dk_at dksX2_noise_0 5 rfl rfl)
theorem dX2_noise_6 : decode cX2_noise 6 = .ok (.invokestatic 246, 3) := dk_184 0 246 (dk_at dksX2_noise_0 6 rfl rfl)
theorem dX2_noise_9 : decode cX2_noise 9 = .ok (.iconst 4, 1) := dk_7 (dk_at dksX2_noise_0 9 rfl rfl)
theorem dX2_noise_10 : decode cX2_noise 10 = .ok (.idiv, 1) := dk_108 (dk_at dksX2_noise_0 10 rfl rfl)
theorem dX2_noise_11 : decode cX2_noise 11 = .ok (.aload_n 1, 1) := dk_43 (dk_at dksX2_noise_0 11 rfl rfl)
theorem dX2_noise_12 : decode cX2_noise 12 = .ok (.getfield 101, 3) := dk_180 0 101 (dk_at dksX2_noise_0 12 rfl rfl)
theorem dX2_noise_15 : decode cX2_noise 15 = .ok (.iconst 3, 1) := dk_6 (dk_at dksX2_noise_0 15 rfl rfl)
theorem dX2_noise_16 : decode cX2_noise 16 = .ok (.idiv, 1) := dk_108 (dk_at dksX2_noise_0 16 rfl rfl)
theorem dX2_noise_17 : decode cX2_noise 17 = .ok (.iadd, 1) := dk_96 (dk_at dksX2_noise_0 17 rfl rfl)
theorem dX2_noise_18 : decode cX2_noise 18 = .ok (.iconst 2, 1) := dk_5 (dk_at dksX2_noise_0 18 rfl rfl)
theorem dX2_noise_19 : decode cX2_noise 19 = .ok (.aload_n 0, 1) := dk_42 (dk_at dksX2_noise_0 19 rfl rfl)
theorem dX2_noise_20 : decode cX2_noise 20 = .ok (.invokevirtual 243, 3) := dk_182 0 243 (dk_at dksX2_noise_0 20 rfl rfl)
theorem dX2_noise_23 : decode cX2_noise 23 = .ok (.imul, 1) := dk_104 (dk_at dksX2_noise_0 23 rfl rfl)
theorem dX2_noise_24 : decode cX2_noise 24 = .ok (.iadd, 1) := dk_96 (dk_at dksX2_noise_1 0 rfl rfl)
theorem dX2_noise_25 : decode cX2_noise 25 = .ok (.ireturn, 1) := dk_172 (dk_at dksX2_noise_1 1 rfl rfl)
abbrev cX2_openDoors : ByteArray := prog_18_method_21_code
def yX2_openDoors : MethodName := ⟨RX2, "openDoors", "()I"⟩
def dkwX2_openDoors_1 : List UInt8 := [54, 5, 27, 21, 5, 153, 0, 7, 4, 167, 0, 4, 3, 96, 60, 132, 4, 1, 167, 255, 228, 27, 172]
abbrev dktX2_openDoors_1 : List UInt8 := dkwX2_openDoors_1 ++ []
def dkwX2_openDoors_0 : List UInt8 := [3, 60, 42, 180, 0, 29, 77, 44, 190, 62, 3, 54, 4, 21, 4, 29, 162, 0, 28, 44, 21, 4, 51]
abbrev dktX2_openDoors_0 : List UInt8 := dkwX2_openDoors_0 ++ dktX2_openDoors_1
theorem dksX2_openDoors_0 : cX2_openDoors.data.toList.drop 0 = dktX2_openDoors_0 := by decide +kernel
theorem dksX2_openDoors_1 : cX2_openDoors.data.toList.drop 23 = dktX2_openDoors_1 := dk_seg dksX2_openDoors_0 23 rfl rfl
theorem dX2_openDoors_0 : decode cX2_openDoors 0 = .ok (.iconst 0, 1) := dk_3 (dk_at dksX2_openDoors_0 0 rfl rfl)
theorem dX2_openDoors_1 : decode cX2_openDoors 1 = .ok (.istore_n 1, 1) := dk_60 (dk_at dksX2_openDoors_0 1 rfl rfl)
theorem dX2_openDoors_2 : decode cX2_openDoors 2 = .ok (.aload_n 0, 1) := dk_42 (dk_at dksX2_openDoors_0 2 rfl rfl)
theorem dX2_openDoors_3 : decode cX2_openDoors 3 = .ok (.getfield 29, 3) := dk_180 0 29 (dk_at dksX2_openDoors_0 3 rfl rfl)
theorem dX2_openDoors_6 : decode cX2_openDoors 6 = .ok (.astore_n 2, 1) := dk_77 (dk_at dksX2_openDoors_0 6 rfl rfl)
theorem dX2_openDoors_7 : decode cX2_openDoors 7 = .ok (.aload_n 2, 1) := dk_44 (dk_at dksX2_openDoors_0 7 rfl rfl)
theorem dX2_openDoors_8 : decode cX2_openDoors 8 = .ok (.arraylength, 1) := dk_190 (dk_at dksX2_openDoors_0 8 rfl rfl)
theorem dX2_openDoors_9 : decode cX2_openDoors 9 = .ok (.istore_n 3, 1) := dk_62 (dk_at dksX2_openDoors_0 9 rfl rfl)
theorem dX2_openDoors_10 : decode cX2_openDoors 10 = .ok (.iconst 0, 1) := dk_3 (dk_at dksX2_openDoors_0 10 rfl rfl)
theorem dX2_openDoors_11 : decode cX2_openDoors 11 = .ok (.istore 4, 2) := dk_54 4 (dk_at dksX2_openDoors_0 11 rfl rfl)
theorem dX2_openDoors_13 : decode cX2_openDoors 13 = .ok (.iload 4, 2) := dk_21 4 (dk_at dksX2_openDoors_0 13 rfl rfl)
theorem dX2_openDoors_15 : decode cX2_openDoors 15 = .ok (.iload_n 3, 1) := dk_29 (dk_at dksX2_openDoors_0 15 rfl rfl)
theorem dX2_openDoors_16 : decode cX2_openDoors 16 = .ok (.if_icmp .ge 28, 3) := dk_162 0 28 (dk_at dksX2_openDoors_0 16 rfl rfl)
theorem dX2_openDoors_19 : decode cX2_openDoors 19 = .ok (.aload_n 2, 1) := dk_44 (dk_at dksX2_openDoors_0 19 rfl rfl)
theorem dX2_openDoors_20 : decode cX2_openDoors 20 = .ok (.iload 4, 2) := dk_21 4 (dk_at dksX2_openDoors_0 20 rfl rfl)
theorem dX2_openDoors_22 : decode cX2_openDoors 22 = .ok (.baload, 1) := dk_51 (dk_at dksX2_openDoors_0 22 rfl rfl)
theorem dX2_openDoors_23 : decode cX2_openDoors 23 = .ok (.istore 5, 2) := dk_54 5 (dk_at dksX2_openDoors_1 0 rfl rfl)
theorem dX2_openDoors_25 : decode cX2_openDoors 25 = .ok (.iload_n 1, 1) := dk_27 (dk_at dksX2_openDoors_1 2 rfl rfl)
theorem dX2_openDoors_26 : decode cX2_openDoors 26 = .ok (.iload 5, 2) := dk_21 5 (dk_at dksX2_openDoors_1 3 rfl rfl)
theorem dX2_openDoors_28 : decode cX2_openDoors 28 = .ok (.ifCond .eq 7, 3) := dk_153 0 7 (dk_at dksX2_openDoors_1 5 rfl rfl)
theorem dX2_openDoors_31 : decode cX2_openDoors 31 = .ok (.iconst 1, 1) := dk_4 (dk_at dksX2_openDoors_1 8 rfl rfl)
theorem dX2_openDoors_32 : decode cX2_openDoors 32 = .ok (.goto 4, 3) := dk_167 0 4 (dk_at dksX2_openDoors_1 9 rfl rfl)
theorem dX2_openDoors_35 : decode cX2_openDoors 35 = .ok (.iconst 0, 1) := dk_3 (dk_at dksX2_openDoors_1 12 rfl rfl)
theorem dX2_openDoors_36 : decode cX2_openDoors 36 = .ok (.iadd, 1) := dk_96 (dk_at dksX2_openDoors_1 13 rfl rfl)
theorem dX2_openDoors_37 : decode cX2_openDoors 37 = .ok (.istore_n 1, 1) := dk_60 (dk_at dksX2_openDoors_1 14 rfl rfl)
theorem dX2_openDoors_38 : decode cX2_openDoors 38 = .ok (.iinc 4 1, 3) := dk_132 4 1 (dk_at dksX2_openDoors_1 15 rfl rfl)
theorem dX2_openDoors_41 : decode cX2_openDoors 41 = .ok (.goto (-28), 3) := dk_167 255 228 (dk_at dksX2_openDoors_1 18 rfl rfl)
theorem dX2_openDoors_44 : decode cX2_openDoors 44 = .ok (.iload_n 1, 1) := dk_27 (dk_at dksX2_openDoors_1 21 rfl rfl)
theorem dX2_openDoors_45 : decode cX2_openDoors 45 = .ok (.ireturn, 1) := dk_172 (dk_at dksX2_openDoors_1 22 rfl rfl)
abbrev cX2_lift : ByteArray := prog_18_method_27_code
def yX2_lift : MethodName := ⟨RX2, "lift", "(LCurtainRiggers$Bar;I)I"⟩
def dkwX2_lift_1 : List UInt8 := [181, 1, 11, 43, 28, 181, 0, 181, 42, 89, 180, 0, 63, 4, 96, 181, 0, 63, 29, 172]
abbrev dktX2_lift_1 : List UInt8 := dkwX2_lift_1 ++ []
def dkwX2_lift_0 : List UInt8 := [42, 43, 28, 182, 1, 7, 62, 43, 89, 180, 1, 11, 28, 43, 180, 0, 181, 100, 184, 0, 246, 96]
abbrev dktX2_lift_0 : List UInt8 := dkwX2_lift_0 ++ dktX2_lift_1
theorem dksX2_lift_0 : cX2_lift.data.toList.drop 0 = dktX2_lift_0 := by decide +kernel
theorem dksX2_lift_1 : cX2_lift.data.toList.drop 22 = dktX2_lift_1 := dk_seg dksX2_lift_0 22 rfl rfl
theorem dX2_lift_0 : decode cX2_lift 0 = .ok (.aload_n 0, 1) := dk_42 (dk_at dksX2_lift_0 0 rfl rfl)
theorem dX2_lift_1 : decode cX2_lift 1 = .ok (.aload_n 1, 1) := dk_43 (dk_at dksX2_lift_0 1 rfl rfl)
theorem dX2_lift_2 : decode cX2_lift 2 = .ok (.iload_n 2, 1) := dk_28 (dk_at dksX2_lift_0 2 rfl rfl)
theorem dX2_lift_3 : decode cX2_lift 3 = .ok (.invokevirtual 263, 3) := dk_182 1 7 (dk_at dksX2_lift_0 3 rfl rfl)
theorem dX2_lift_6 : decode cX2_lift 6 = .ok (.istore_n 3, 1) := dk_62 (dk_at dksX2_lift_0 6 rfl rfl)
theorem dX2_lift_7 : decode cX2_lift 7 = .ok (.aload_n 1, 1) := dk_43 (dk_at dksX2_lift_0 7 rfl rfl)
theorem dX2_lift_8 : decode cX2_lift 8 = .ok (.dup, 1) := dk_89 (dk_at dksX2_lift_0 8 rfl rfl)
theorem dX2_lift_9 : decode cX2_lift 9 = .ok (.getfield 267, 3) := dk_180 1 11 (dk_at dksX2_lift_0 9 rfl rfl)
theorem dX2_lift_12 : decode cX2_lift 12 = .ok (.iload_n 2, 1) := dk_28 (dk_at dksX2_lift_0 12 rfl rfl)
theorem dX2_lift_13 : decode cX2_lift 13 = .ok (.aload_n 1, 1) := dk_43 (dk_at dksX2_lift_0 13 rfl rfl)
theorem dX2_lift_14 : decode cX2_lift 14 = .ok (.getfield 181, 3) := dk_180 0 181 (dk_at dksX2_lift_0 14 rfl rfl)
theorem dX2_lift_17 : decode cX2_lift 17 = .ok (.isub, 1) := dk_100 (dk_at dksX2_lift_0 17 rfl rfl)
theorem dX2_lift_18 : decode cX2_lift 18 = .ok (.invokestatic 246, 3) := dk_184 0 246 (dk_at dksX2_lift_0 18 rfl rfl)
theorem dX2_lift_21 : decode cX2_lift 21 = .ok (.iadd, 1) := dk_96 (dk_at dksX2_lift_0 21 rfl rfl)
theorem dX2_lift_22 : decode cX2_lift 22 = .ok (.putfield 267, 3) := dk_181 1 11 (dk_at dksX2_lift_1 0 rfl rfl)
theorem dX2_lift_25 : decode cX2_lift 25 = .ok (.aload_n 1, 1) := dk_43 (dk_at dksX2_lift_1 3 rfl rfl)
theorem dX2_lift_26 : decode cX2_lift 26 = .ok (.iload_n 2, 1) := dk_28 (dk_at dksX2_lift_1 4 rfl rfl)
theorem dX2_lift_27 : decode cX2_lift 27 = .ok (.putfield 181, 3) := dk_181 0 181 (dk_at dksX2_lift_1 5 rfl rfl)
theorem dX2_lift_30 : decode cX2_lift 30 = .ok (.aload_n 0, 1) := dk_42 (dk_at dksX2_lift_1 8 rfl rfl)
theorem dX2_lift_31 : decode cX2_lift 31 = .ok (.dup, 1) := dk_89 (dk_at dksX2_lift_1 9 rfl rfl)
theorem dX2_lift_32 : decode cX2_lift 32 = .ok (.getfield 63, 3) := dk_180 0 63 (dk_at dksX2_lift_1 10 rfl rfl)
theorem dX2_lift_35 : decode cX2_lift 35 = .ok (.iconst 1, 1) := dk_4 (dk_at dksX2_lift_1 13 rfl rfl)
theorem dX2_lift_36 : decode cX2_lift 36 = .ok (.iadd, 1) := dk_96 (dk_at dksX2_lift_1 14 rfl rfl)
theorem dX2_lift_37 : decode cX2_lift 37 = .ok (.putfield 63, 3) := dk_181 0 63 (dk_at dksX2_lift_1 15 rfl rfl)
theorem dX2_lift_40 : decode cX2_lift 40 = .ok (.iload_n 3, 1) := dk_29 (dk_at dksX2_lift_1 18 rfl rfl)
theorem dX2_lift_41 : decode cX2_lift 41 = .ok (.ireturn, 1) := dk_172 (dk_at dksX2_lift_1 19 rfl rfl)
abbrev cX2_toldCues : ByteArray := prog_18_method_37_code
def yX2_toldCues : MethodName := ⟨RX2, "toldCues", "()Ljava/lang/String;"⟩
def dkwX2_toldCues_6 : List UInt8 := [182, 1, 65, 182, 1, 91, 176]
abbrev dktX2_toldCues_6 : List UInt8 := dkwX2_toldCues_6 ++ []
def dkwX2_toldCues_5 : List UInt8 := [182, 1, 65, 77, 167, 255, 161, 44, 44, 182, 1, 95, 154, 0, 9, 19, 1, 102, 167, 0, 6, 19, 1, 89]
abbrev dktX2_toldCues_5 : List UInt8 := dkwX2_toldCues_5 ++ dktX2_toldCues_6
def dkwX2_toldCues_4 : List UInt8 := [25, 5, 180, 1, 35, 182, 1, 59, 25, 5, 45, 166, 0, 9, 19, 1, 100, 167, 0, 6, 19, 1, 89]
abbrev dktX2_toldCues_4 : List UInt8 := dkwX2_toldCues_4 ++ dktX2_toldCues_5
def dkwX2_toldCues_3 : List UInt8 := [180, 1, 22, 182, 1, 59, 16, 58, 182, 1, 68, 25, 5, 180, 1, 25, 182, 1, 59, 16, 62, 182, 1, 68]
abbrev dktX2_toldCues_3 : List UInt8 := dkwX2_toldCues_3 ++ dktX2_toldCues_4
def dkwX2_toldCues_2 : List UInt8 := [43, 43, 182, 1, 95, 154, 0, 9, 19, 1, 89, 167, 0, 6, 19, 1, 98, 182, 1, 65, 25, 5]
abbrev dktX2_toldCues_2 : List UInt8 := dkwX2_toldCues_2 ++ dktX2_toldCues_3
def dkwX2_toldCues_1 : List UInt8 := [58, 4, 25, 4, 185, 0, 114, 1, 0, 153, 0, 91, 25, 4, 185, 0, 120, 1, 0, 192, 1, 20, 58, 5]
abbrev dktX2_toldCues_1 : List UInt8 := dkwX2_toldCues_1 ++ dktX2_toldCues_2
def dkwX2_toldCues_0 : List UInt8 := [187, 1, 56, 89, 183, 1, 58, 76, 43, 77, 42, 182, 1, 46, 78, 42, 2, 182, 1, 42, 182, 0, 199]
abbrev dktX2_toldCues_0 : List UInt8 := dkwX2_toldCues_0 ++ dktX2_toldCues_1
theorem dksX2_toldCues_0 : cX2_toldCues.data.toList.drop 0 = dktX2_toldCues_0 := by decide +kernel
theorem dksX2_toldCues_1 : cX2_toldCues.data.toList.drop 23 = dktX2_toldCues_1 := dk_seg dksX2_toldCues_0 23 rfl rfl
theorem dksX2_toldCues_2 : cX2_toldCues.data.toList.drop 47 = dktX2_toldCues_2 := dk_seg dksX2_toldCues_1 24 rfl rfl
theorem dksX2_toldCues_3 : cX2_toldCues.data.toList.drop 69 = dktX2_toldCues_3 := dk_seg dksX2_toldCues_2 22 rfl rfl
theorem dksX2_toldCues_4 : cX2_toldCues.data.toList.drop 93 = dktX2_toldCues_4 := dk_seg dksX2_toldCues_3 24 rfl rfl
theorem dksX2_toldCues_5 : cX2_toldCues.data.toList.drop 116 = dktX2_toldCues_5 := dk_seg dksX2_toldCues_4 23 rfl rfl
theorem dksX2_toldCues_6 : cX2_toldCues.data.toList.drop 140 = dktX2_toldCues_6 := dk_seg dksX2_toldCues_5 24 rfl rfl
theorem dX2_toldCues_0 : decode cX2_toldCues 0 = .ok (.new 312, 3) := dk_187 1 56 (dk_at dksX2_toldCues_0 0 rfl rfl)
theorem dX2_toldCues_3 : decode cX2_toldCues 3 = .ok (.dup, 1) := dk_89 (dk_at dksX2_toldCues_0 3 rfl rfl)
theorem dX2_toldCues_4 : decode cX2_toldCues 4 = .ok (.invokespecial 314, 3) := dk_183 1 58 (dk_at dksX2_toldCues_0 4 rfl rfl)
theorem dX2_toldCues_7 : decode cX2_toldCues 7 = .ok (.astore_n 1, 1) := dk_76 (dk_at dksX2_toldCues_0 7 rfl rfl)
theorem dX2_toldCues_8 : decode cX2_toldCues 8 = .ok (.aload_n 1, 1) := dk_43 (dk_at dksX2_toldCues_0 8 rfl rfl)
theorem dX2_toldCues_9 : decode cX2_toldCues 9 = .ok (.astore_n 2, 1) := dk_77 (dk_at dksX2_toldCues_0 9 rfl rfl)
theorem dX2_toldCues_10 : decode cX2_toldCues 10 = .ok (.aload_n 0, 1) := dk_42 (dk_at dksX2_toldCues_0 10 rfl rfl)
theorem dX2_toldCues_11 : decode cX2_toldCues 11 = .ok (.invokevirtual 302, 3) := dk_182 1 46 (dk_at dksX2_toldCues_0 11 rfl rfl)
theorem dX2_toldCues_14 : decode cX2_toldCues 14 = .ok (.astore_n 3, 1) := dk_78 (dk_at dksX2_toldCues_0 14 rfl rfl)
theorem dX2_toldCues_15 : decode cX2_toldCues 15 = .ok (.aload_n 0, 1) := dk_42 (dk_at dksX2_toldCues_0 15 rfl rfl)
theorem dX2_toldCues_16 : decode cX2_toldCues 16 = .ok (.iconst (-1), 1) := dk_2 (dk_at dksX2_toldCues_0 16 rfl rfl)
theorem dX2_toldCues_17 : decode cX2_toldCues 17 = .ok (.invokevirtual 298, 3) := dk_182 1 42 (dk_at dksX2_toldCues_0 17 rfl rfl)
theorem dX2_toldCues_20 : decode cX2_toldCues 20 = .ok (.invokevirtual 199, 3) := dk_182 0 199 (dk_at dksX2_toldCues_0 20 rfl rfl)
theorem dX2_toldCues_23 : decode cX2_toldCues 23 = .ok (.astore 4, 2) := dk_58 4 (dk_at dksX2_toldCues_1 0 rfl rfl)
theorem dX2_toldCues_25 : decode cX2_toldCues 25 = .ok (.aload 4, 2) := dk_25 4 (dk_at dksX2_toldCues_1 2 rfl rfl)
theorem dX2_toldCues_27 : decode cX2_toldCues 27 = .ok (.invokeinterface 114 1, 5) := by decide +kernel
theorem dX2_toldCues_32 : decode cX2_toldCues 32 = .ok (.ifCond .eq 91, 3) := dk_153 0 91 (dk_at dksX2_toldCues_1 9 rfl rfl)
theorem dX2_toldCues_35 : decode cX2_toldCues 35 = .ok (.aload 4, 2) := dk_25 4 (dk_at dksX2_toldCues_1 12 rfl rfl)
theorem dX2_toldCues_37 : decode cX2_toldCues 37 = .ok (.invokeinterface 120 1, 5) := by decide +kernel
theorem dX2_toldCues_42 : decode cX2_toldCues 42 = .ok (.checkcast 276, 3) := dk_192 1 20 (dk_at dksX2_toldCues_1 19 rfl rfl)
theorem dX2_toldCues_45 : decode cX2_toldCues 45 = .ok (.astore 5, 2) := dk_58 5 (dk_at dksX2_toldCues_1 22 rfl rfl)
theorem dX2_toldCues_47 : decode cX2_toldCues 47 = .ok (.aload_n 1, 1) := dk_43 (dk_at dksX2_toldCues_2 0 rfl rfl)
theorem dX2_toldCues_48 : decode cX2_toldCues 48 = .ok (.aload_n 1, 1) := dk_43 (dk_at dksX2_toldCues_2 1 rfl rfl)
theorem dX2_toldCues_49 : decode cX2_toldCues 49 = .ok (.invokevirtual 351, 3) := dk_182 1 95 (dk_at dksX2_toldCues_2 2 rfl rfl)
theorem dX2_toldCues_52 : decode cX2_toldCues 52 = .ok (.ifCond .ne 9, 3) := dk_154 0 9 (dk_at dksX2_toldCues_2 5 rfl rfl)
theorem dX2_toldCues_55 : decode cX2_toldCues 55 = .ok (.ldc_w 345, 3) := dk_19 1 89 (dk_at dksX2_toldCues_2 8 rfl rfl)
theorem dX2_toldCues_58 : decode cX2_toldCues 58 = .ok (.goto 6, 3) := dk_167 0 6 (dk_at dksX2_toldCues_2 11 rfl rfl)
theorem dX2_toldCues_61 : decode cX2_toldCues 61 = .ok (.ldc_w 354, 3) := dk_19 1 98 (dk_at dksX2_toldCues_2 14 rfl rfl)
theorem dX2_toldCues_64 : decode cX2_toldCues 64 = .ok (.invokevirtual 321, 3) := dk_182 1 65 (dk_at dksX2_toldCues_2 17 rfl rfl)
theorem dX2_toldCues_67 : decode cX2_toldCues 67 = .ok (.aload 5, 2) := dk_25 5 (dk_at dksX2_toldCues_2 20 rfl rfl)
theorem dX2_toldCues_69 : decode cX2_toldCues 69 = .ok (.getfield 278, 3) := dk_180 1 22 (dk_at dksX2_toldCues_3 0 rfl rfl)
theorem dX2_toldCues_72 : decode cX2_toldCues 72 = .ok (.invokevirtual 315, 3) := dk_182 1 59 (dk_at dksX2_toldCues_3 3 rfl rfl)
theorem dX2_toldCues_75 : decode cX2_toldCues 75 = .ok (.bipush 58, 2) := dk_16 58 (dk_at dksX2_toldCues_3 6 rfl rfl)
theorem dX2_toldCues_77 : decode cX2_toldCues 77 = .ok (.invokevirtual 324, 3) := dk_182 1 68 (dk_at dksX2_toldCues_3 8 rfl rfl)
theorem dX2_toldCues_80 : decode cX2_toldCues 80 = .ok (.aload 5, 2) := dk_25 5 (dk_at dksX2_toldCues_3 11 rfl rfl)
theorem dX2_toldCues_82 : decode cX2_toldCues 82 = .ok (.getfield 281, 3) := dk_180 1 25 (dk_at dksX2_toldCues_3 13 rfl rfl)
theorem dX2_toldCues_85 : decode cX2_toldCues 85 = .ok (.invokevirtual 315, 3) := dk_182 1 59 (dk_at dksX2_toldCues_3 16 rfl rfl)
theorem dX2_toldCues_88 : decode cX2_toldCues 88 = .ok (.bipush 62, 2) := dk_16 62 (dk_at dksX2_toldCues_3 19 rfl rfl)
theorem dX2_toldCues_90 : decode cX2_toldCues 90 = .ok (.invokevirtual 324, 3) := dk_182 1 68 (dk_at dksX2_toldCues_3 21 rfl rfl)
theorem dX2_toldCues_93 : decode cX2_toldCues 93 = .ok (.aload 5, 2) := dk_25 5 (dk_at dksX2_toldCues_4 0 rfl rfl)
theorem dX2_toldCues_95 : decode cX2_toldCues 95 = .ok (.getfield 291, 3) := dk_180 1 35 (dk_at dksX2_toldCues_4 2 rfl rfl)
theorem dX2_toldCues_98 : decode cX2_toldCues 98 = .ok (.invokevirtual 315, 3) := dk_182 1 59 (dk_at dksX2_toldCues_4 5 rfl rfl)
theorem dX2_toldCues_101 : decode cX2_toldCues 101 = .ok (.aload 5, 2) := dk_25 5 (dk_at dksX2_toldCues_4 8 rfl rfl)
theorem dX2_toldCues_103 : decode cX2_toldCues 103 = .ok (.aload_n 3, 1) := dk_45 (dk_at dksX2_toldCues_4 10 rfl rfl)
theorem dX2_toldCues_104 : decode cX2_toldCues 104 = .ok (.if_acmp .ne 9, 3) := dk_166 0 9 (dk_at dksX2_toldCues_4 11 rfl rfl)
theorem dX2_toldCues_107 : decode cX2_toldCues 107 = .ok (.ldc_w 356, 3) := dk_19 1 100 (dk_at dksX2_toldCues_4 14 rfl rfl)
theorem dX2_toldCues_110 : decode cX2_toldCues 110 = .ok (.goto 6, 3) := dk_167 0 6 (dk_at dksX2_toldCues_4 17 rfl rfl)
theorem dX2_toldCues_113 : decode cX2_toldCues 113 = .ok (.ldc_w 345, 3) := dk_19 1 89 (dk_at dksX2_toldCues_4 20 rfl rfl)
theorem dX2_toldCues_116 : decode cX2_toldCues 116 = .ok (.invokevirtual 321, 3) := dk_182 1 65 (dk_at dksX2_toldCues_5 0 rfl rfl)
theorem dX2_toldCues_119 : decode cX2_toldCues 119 = .ok (.astore_n 2, 1) := dk_77 (dk_at dksX2_toldCues_5 3 rfl rfl)
theorem dX2_toldCues_120 : decode cX2_toldCues 120 = .ok (.goto (-95), 3) := dk_167 255 161 (dk_at dksX2_toldCues_5 4 rfl rfl)
theorem dX2_toldCues_123 : decode cX2_toldCues 123 = .ok (.aload_n 2, 1) := dk_44 (dk_at dksX2_toldCues_5 7 rfl rfl)
theorem dX2_toldCues_124 : decode cX2_toldCues 124 = .ok (.aload_n 2, 1) := dk_44 (dk_at dksX2_toldCues_5 8 rfl rfl)
theorem dX2_toldCues_125 : decode cX2_toldCues 125 = .ok (.invokevirtual 351, 3) := dk_182 1 95 (dk_at dksX2_toldCues_5 9 rfl rfl)
theorem dX2_toldCues_128 : decode cX2_toldCues 128 = .ok (.ifCond .ne 9, 3) := dk_154 0 9 (dk_at dksX2_toldCues_5 12 rfl rfl)
theorem dX2_toldCues_131 : decode cX2_toldCues 131 = .ok (.ldc_w 358, 3) := dk_19 1 102 (dk_at dksX2_toldCues_5 15 rfl rfl)
theorem dX2_toldCues_134 : decode cX2_toldCues 134 = .ok (.goto 6, 3) := dk_167 0 6 (dk_at dksX2_toldCues_5 18 rfl rfl)
theorem dX2_toldCues_137 : decode cX2_toldCues 137 = .ok (.ldc_w 345, 3) := dk_19 1 89 (dk_at dksX2_toldCues_5 21 rfl rfl)
theorem dX2_toldCues_140 : decode cX2_toldCues 140 = .ok (.invokevirtual 321, 3) := dk_182 1 65 (dk_at dksX2_toldCues_6 0 rfl rfl)
theorem dX2_toldCues_143 : decode cX2_toldCues 143 = .ok (.invokevirtual 347, 3) := dk_182 1 91 (dk_at dksX2_toldCues_6 3 rfl rfl)
theorem dX2_toldCues_146 : decode cX2_toldCues 146 = .ok (.areturn, 1) := dk_176 (dk_at dksX2_toldCues_6 6 rfl rfl)
abbrev cX2_sum : ByteArray := prog_18_method_6_code
def yX2_sum : MethodName := ⟨RX2, "sum", "(I)I"⟩
def dkwX2_sum_0 : List UInt8 := [42, 180, 0, 14, 187, 0, 78, 89, 27, 183, 0, 80, 184, 0, 81, 172]
abbrev dktX2_sum_0 : List UInt8 := dkwX2_sum_0 ++ []
theorem dksX2_sum_0 : cX2_sum.data.toList.drop 0 = dktX2_sum_0 := by decide +kernel
theorem dX2_sum_0 : decode cX2_sum 0 = .ok (.aload_n 0, 1) := dk_42 (dk_at dksX2_sum_0 0 rfl rfl)
theorem dX2_sum_1 : decode cX2_sum 1 = .ok (.getfield 14, 3) := dk_180 0 14 (dk_at dksX2_sum_0 1 rfl rfl)
theorem dX2_sum_4 : decode cX2_sum 4 = .ok (.new 78, 3) := dk_187 0 78 (dk_at dksX2_sum_0 4 rfl rfl)
theorem dX2_sum_7 : decode cX2_sum 7 = .ok (.dup, 1) := dk_89 (dk_at dksX2_sum_0 7 rfl rfl)
theorem dX2_sum_8 : decode cX2_sum 8 = .ok (.iload_n 1, 1) := dk_27 (dk_at dksX2_sum_0 8 rfl rfl)
theorem dX2_sum_9 : decode cX2_sum 9 = .ok (.invokespecial 80, 3) := dk_183 0 80 (dk_at dksX2_sum_0 9 rfl rfl)
theorem dX2_sum_12 : decode cX2_sum 12 = .ok (.invokestatic 81, 3) := dk_184 0 81 (dk_at dksX2_sum_0 12 rfl rfl)
theorem dX2_sum_15 : decode cX2_sum 15 = .ok (.ireturn, 1) := dk_172 (dk_at dksX2_sum_0 15 rfl rfl)
abbrev cX2_hang : ByteArray := prog_18_method_11_code
def yX2_hang : MethodName := ⟨RX2, "hang", "(II)I"⟩
def dkwX2_hang_2 : List UInt8 := [182, 0, 154, 25, 4, 180, 0, 158, 172]
abbrev dktX2_hang_2 : List UInt8 := dkwX2_hang_2 ++ []
def dkwX2_hang_1 : List UInt8 := [167, 0, 4, 3, 16, 6, 45, 180, 0, 149, 184, 0, 102, 25, 4, 182, 0, 151, 25, 4, 45, 4]
abbrev dktX2_hang_1 : List UInt8 := dkwX2_hang_1 ++ dktX2_hang_2
def dkwX2_hang_0 : List UInt8 := [42, 27, 182, 0, 145, 78, 42, 28, 182, 0, 97, 58, 4, 45, 180, 0, 149, 2, 160, 0, 7, 4]
abbrev dktX2_hang_0 : List UInt8 := dkwX2_hang_0 ++ dktX2_hang_1
theorem dksX2_hang_0 : cX2_hang.data.toList.drop 0 = dktX2_hang_0 := by decide +kernel
theorem dksX2_hang_1 : cX2_hang.data.toList.drop 22 = dktX2_hang_1 := dk_seg dksX2_hang_0 22 rfl rfl
theorem dksX2_hang_2 : cX2_hang.data.toList.drop 44 = dktX2_hang_2 := dk_seg dksX2_hang_1 22 rfl rfl
theorem dX2_hang_0 : decode cX2_hang 0 = .ok (.aload_n 0, 1) := dk_42 (dk_at dksX2_hang_0 0 rfl rfl)
theorem dX2_hang_1 : decode cX2_hang 1 = .ok (.iload_n 1, 1) := dk_27 (dk_at dksX2_hang_0 1 rfl rfl)
theorem dX2_hang_2 : decode cX2_hang 2 = .ok (.invokevirtual 145, 3) := dk_182 0 145 (dk_at dksX2_hang_0 2 rfl rfl)
theorem dX2_hang_5 : decode cX2_hang 5 = .ok (.astore_n 3, 1) := dk_78 (dk_at dksX2_hang_0 5 rfl rfl)
theorem dX2_hang_6 : decode cX2_hang 6 = .ok (.aload_n 0, 1) := dk_42 (dk_at dksX2_hang_0 6 rfl rfl)
theorem dX2_hang_7 : decode cX2_hang 7 = .ok (.iload_n 2, 1) := dk_28 (dk_at dksX2_hang_0 7 rfl rfl)
theorem dX2_hang_8 : decode cX2_hang 8 = .ok (.invokevirtual 97, 3) := dk_182 0 97 (dk_at dksX2_hang_0 8 rfl rfl)
theorem dX2_hang_11 : decode cX2_hang 11 = .ok (.astore 4, 2) := dk_58 4 (dk_at dksX2_hang_0 11 rfl rfl)
theorem dX2_hang_13 : decode cX2_hang 13 = .ok (.aload_n 3, 1) := dk_45 (dk_at dksX2_hang_0 13 rfl rfl)
theorem dX2_hang_14 : decode cX2_hang 14 = .ok (.getfield 149, 3) := dk_180 0 149 (dk_at dksX2_hang_0 14 rfl rfl)
theorem dX2_hang_17 : decode cX2_hang 17 = .ok (.iconst (-1), 1) := dk_2 (dk_at dksX2_hang_0 17 rfl rfl)
theorem dX2_hang_18 : decode cX2_hang 18 = .ok (.if_icmp .ne 7, 3) := dk_160 0 7 (dk_at dksX2_hang_0 18 rfl rfl)
theorem dX2_hang_21 : decode cX2_hang 21 = .ok (.iconst 1, 1) := dk_4 (dk_at dksX2_hang_0 21 rfl rfl)
theorem dX2_hang_22 : decode cX2_hang 22 = .ok (.goto 4, 3) := dk_167 0 4 (dk_at dksX2_hang_1 0 rfl rfl)
theorem dX2_hang_25 : decode cX2_hang 25 = .ok (.iconst 0, 1) := dk_3 (dk_at dksX2_hang_1 3 rfl rfl)
theorem dX2_hang_26 : decode cX2_hang 26 = .ok (.bipush 6, 2) := dk_16 6 (dk_at dksX2_hang_1 4 rfl rfl)
theorem dX2_hang_28 : decode cX2_hang 28 = .ok (.aload_n 3, 1) := dk_45 (dk_at dksX2_hang_1 6 rfl rfl)
theorem dX2_hang_29 : decode cX2_hang 29 = .ok (.getfield 149, 3) := dk_180 0 149 (dk_at dksX2_hang_1 7 rfl rfl)
theorem dX2_hang_32 : decode cX2_hang 32 = .ok (.invokestatic 102, 3) := dk_184 0 102 (dk_at dksX2_hang_1 10 rfl rfl)
theorem dX2_hang_35 : decode cX2_hang 35 = .ok (.aload 4, 2) := dk_25 4 (dk_at dksX2_hang_1 13 rfl rfl)
theorem dX2_hang_37 : decode cX2_hang 37 = .ok (.invokevirtual 151, 3) := dk_182 0 151 (dk_at dksX2_hang_1 15 rfl rfl)
theorem dX2_hang_40 : decode cX2_hang 40 = .ok (.aload 4, 2) := dk_25 4 (dk_at dksX2_hang_1 18 rfl rfl)
theorem dX2_hang_42 : decode cX2_hang 42 = .ok (.aload_n 3, 1) := dk_45 (dk_at dksX2_hang_1 20 rfl rfl)
theorem dX2_hang_43 : decode cX2_hang 43 = .ok (.iconst 1, 1) := dk_4 (dk_at dksX2_hang_1 21 rfl rfl)
theorem dX2_hang_44 : decode cX2_hang 44 = .ok (.invokevirtual 154, 3) := dk_182 0 154 (dk_at dksX2_hang_2 0 rfl rfl)
theorem dX2_hang_47 : decode cX2_hang 47 = .ok (.aload 4, 2) := dk_25 4 (dk_at dksX2_hang_2 3 rfl rfl)
theorem dX2_hang_49 : decode cX2_hang 49 = .ok (.getfield 158, 3) := dk_180 0 158 (dk_at dksX2_hang_2 5 rfl rfl)
theorem dX2_hang_52 : decode cX2_hang 52 = .ok (.ireturn, 1) := dk_172 (dk_at dksX2_hang_2 8 rfl rfl)
abbrev cX2_curtain : ByteArray := prog_18_method_4_code
def yX2_curtain : MethodName := ⟨RX2, "curtain", "(I)LCurtainRiggers$Curtain;"⟩
def dkwX2_curtain_0 : List UInt8 := [42, 180, 0, 20, 27, 184, 0, 66, 192, 0, 74, 176]
abbrev dktX2_curtain_0 : List UInt8 := dkwX2_curtain_0 ++ []
theorem dksX2_curtain_0 : cX2_curtain.data.toList.drop 0 = dktX2_curtain_0 := by decide +kernel
theorem dX2_curtain_0 : decode cX2_curtain 0 = .ok (.aload_n 0, 1) := dk_42 (dk_at dksX2_curtain_0 0 rfl rfl)
theorem dX2_curtain_1 : decode cX2_curtain 1 = .ok (.getfield 20, 3) := dk_180 0 20 (dk_at dksX2_curtain_0 1 rfl rfl)
theorem dX2_curtain_4 : decode cX2_curtain 4 = .ok (.iload_n 1, 1) := dk_27 (dk_at dksX2_curtain_0 4 rfl rfl)
theorem dX2_curtain_5 : decode cX2_curtain 5 = .ok (.invokestatic 66, 3) := dk_184 0 66 (dk_at dksX2_curtain_0 5 rfl rfl)
theorem dX2_curtain_8 : decode cX2_curtain 8 = .ok (.checkcast 74, 3) := dk_192 0 74 (dk_at dksX2_curtain_0 8 rfl rfl)
theorem dX2_curtain_11 : decode cX2_curtain 11 = .ok (.areturn, 1) := dk_176 (dk_at dksX2_curtain_0 11 rfl rfl)
abbrev cX2_bar : ByteArray := prog_18_method_3_code
def yX2_bar : MethodName := ⟨RX2, "bar", "(I)LCurtainRiggers$Bar;"⟩
def dkwX2_bar_0 : List UInt8 := [42, 180, 0, 14, 27, 184, 0, 66, 192, 0, 72, 176]
abbrev dktX2_bar_0 : List UInt8 := dkwX2_bar_0 ++ []
theorem dksX2_bar_0 : cX2_bar.data.toList.drop 0 = dktX2_bar_0 := by decide +kernel
theorem dX2_bar_0 : decode cX2_bar 0 = .ok (.aload_n 0, 1) := dk_42 (dk_at dksX2_bar_0 0 rfl rfl)
theorem dX2_bar_1 : decode cX2_bar 1 = .ok (.getfield 14, 3) := dk_180 0 14 (dk_at dksX2_bar_0 1 rfl rfl)
theorem dX2_bar_4 : decode cX2_bar 4 = .ok (.iload_n 1, 1) := dk_27 (dk_at dksX2_bar_0 4 rfl rfl)
theorem dX2_bar_5 : decode cX2_bar 5 = .ok (.invokestatic 66, 3) := dk_184 0 66 (dk_at dksX2_bar_0 5 rfl rfl)
theorem dX2_bar_8 : decode cX2_bar 8 = .ok (.checkcast 72, 3) := dk_192 0 72 (dk_at dksX2_bar_0 8 rfl rfl)
theorem dX2_bar_11 : decode cX2_bar 11 = .ok (.areturn, 1) := dk_176 (dk_at dksX2_bar_0 11 rfl rfl)
abbrev cX2_drop : ByteArray := prog_18_method_12_code
def yX2_drop : MethodName := ⟨RX2, "drop", "(I)I"⟩
def dkwX2_drop_2 : List UInt8 := [2, 182, 0, 154, 45, 180, 0, 165, 172]
abbrev dktX2_drop_2 : List UInt8 := dkwX2_drop_2 ++ []
def dkwX2_drop_1 : List UInt8 := [184, 0, 102, 42, 180, 0, 14, 44, 180, 0, 149, 182, 0, 161, 192, 0, 72, 78, 45, 182, 0, 151, 45, 44]
abbrev dktX2_drop_1 : List UInt8 := dkwX2_drop_1 ++ dktX2_drop_2
def dkwX2_drop_0 : List UInt8 := [42, 27, 182, 0, 145, 77, 44, 180, 0, 149, 2, 159, 0, 7, 4, 167, 0, 4, 3, 16, 7, 27]
abbrev dktX2_drop_0 : List UInt8 := dkwX2_drop_0 ++ dktX2_drop_1
theorem dksX2_drop_0 : cX2_drop.data.toList.drop 0 = dktX2_drop_0 := by decide +kernel
theorem dksX2_drop_1 : cX2_drop.data.toList.drop 22 = dktX2_drop_1 := dk_seg dksX2_drop_0 22 rfl rfl
theorem dksX2_drop_2 : cX2_drop.data.toList.drop 46 = dktX2_drop_2 := dk_seg dksX2_drop_1 24 rfl rfl
theorem dX2_drop_0 : decode cX2_drop 0 = .ok (.aload_n 0, 1) := dk_42 (dk_at dksX2_drop_0 0 rfl rfl)
theorem dX2_drop_1 : decode cX2_drop 1 = .ok (.iload_n 1, 1) := dk_27 (dk_at dksX2_drop_0 1 rfl rfl)
theorem dX2_drop_2 : decode cX2_drop 2 = .ok (.invokevirtual 145, 3) := dk_182 0 145 (dk_at dksX2_drop_0 2 rfl rfl)
theorem dX2_drop_5 : decode cX2_drop 5 = .ok (.astore_n 2, 1) := dk_77 (dk_at dksX2_drop_0 5 rfl rfl)
theorem dX2_drop_6 : decode cX2_drop 6 = .ok (.aload_n 2, 1) := dk_44 (dk_at dksX2_drop_0 6 rfl rfl)
theorem dX2_drop_7 : decode cX2_drop 7 = .ok (.getfield 149, 3) := dk_180 0 149 (dk_at dksX2_drop_0 7 rfl rfl)
theorem dX2_drop_10 : decode cX2_drop 10 = .ok (.iconst (-1), 1) := dk_2 (dk_at dksX2_drop_0 10 rfl rfl)
theorem dX2_drop_11 : decode cX2_drop 11 = .ok (.if_icmp .eq 7, 3) := dk_159 0 7 (dk_at dksX2_drop_0 11 rfl rfl)
theorem dX2_drop_14 : decode cX2_drop 14 = .ok (.iconst 1, 1) := dk_4 (dk_at dksX2_drop_0 14 rfl rfl)
theorem dX2_drop_15 : decode cX2_drop 15 = .ok (.goto 4, 3) := dk_167 0 4 (dk_at dksX2_drop_0 15 rfl rfl)
theorem dX2_drop_18 : decode cX2_drop 18 = .ok (.iconst 0, 1) := dk_3 (dk_at dksX2_drop_0 18 rfl rfl)
theorem dX2_drop_19 : decode cX2_drop 19 = .ok (.bipush 7, 2) := dk_16 7 (dk_at dksX2_drop_0 19 rfl rfl)
theorem dX2_drop_21 : decode cX2_drop 21 = .ok (.iload_n 1, 1) := dk_27 (dk_at dksX2_drop_0 21 rfl rfl)
theorem dX2_drop_22 : decode cX2_drop 22 = .ok (.invokestatic 102, 3) := dk_184 0 102 (dk_at dksX2_drop_1 0 rfl rfl)
theorem dX2_drop_25 : decode cX2_drop 25 = .ok (.aload_n 0, 1) := dk_42 (dk_at dksX2_drop_1 3 rfl rfl)
theorem dX2_drop_26 : decode cX2_drop 26 = .ok (.getfield 14, 3) := dk_180 0 14 (dk_at dksX2_drop_1 4 rfl rfl)
theorem dX2_drop_29 : decode cX2_drop 29 = .ok (.aload_n 2, 1) := dk_44 (dk_at dksX2_drop_1 7 rfl rfl)
theorem dX2_drop_30 : decode cX2_drop 30 = .ok (.getfield 149, 3) := dk_180 0 149 (dk_at dksX2_drop_1 8 rfl rfl)
theorem dX2_drop_33 : decode cX2_drop 33 = .ok (.invokevirtual 161, 3) := dk_182 0 161 (dk_at dksX2_drop_1 11 rfl rfl)
theorem dX2_drop_36 : decode cX2_drop 36 = .ok (.checkcast 72, 3) := dk_192 0 72 (dk_at dksX2_drop_1 14 rfl rfl)
theorem dX2_drop_39 : decode cX2_drop 39 = .ok (.astore_n 3, 1) := dk_78 (dk_at dksX2_drop_1 17 rfl rfl)
theorem dX2_drop_40 : decode cX2_drop 40 = .ok (.aload_n 3, 1) := dk_45 (dk_at dksX2_drop_1 18 rfl rfl)
theorem dX2_drop_41 : decode cX2_drop 41 = .ok (.invokevirtual 151, 3) := dk_182 0 151 (dk_at dksX2_drop_1 19 rfl rfl)
theorem dX2_drop_44 : decode cX2_drop 44 = .ok (.aload_n 3, 1) := dk_45 (dk_at dksX2_drop_1 22 rfl rfl)
theorem dX2_drop_45 : decode cX2_drop 45 = .ok (.aload_n 2, 1) := dk_44 (dk_at dksX2_drop_1 23 rfl rfl)
theorem dX2_drop_46 : decode cX2_drop 46 = .ok (.iconst (-1), 1) := dk_2 (dk_at dksX2_drop_2 0 rfl rfl)
theorem dX2_drop_47 : decode cX2_drop 47 = .ok (.invokevirtual 154, 3) := dk_182 0 154 (dk_at dksX2_drop_2 1 rfl rfl)
theorem dX2_drop_50 : decode cX2_drop 50 = .ok (.aload_n 3, 1) := dk_45 (dk_at dksX2_drop_2 4 rfl rfl)
theorem dX2_drop_51 : decode cX2_drop 51 = .ok (.getfield 165, 3) := dk_180 0 165 (dk_at dksX2_drop_2 5 rfl rfl)
theorem dX2_drop_54 : decode cX2_drop 54 = .ok (.ireturn, 1) := dk_172 (dk_at dksX2_drop_2 8 rfl rfl)
abbrev cX2_addWeights : ByteArray := prog_18_method_13_code
def yX2_addWeights : MethodName := ⟨RX2, "addWeights", "(II)I"⟩
def dkwX2_addWeights_4 : List UInt8 := [28, 100, 181, 0, 37, 45, 180, 0, 172, 172]
abbrev dktX2_addWeights_4 : List UInt8 := dkwX2_addWeights_4 ++ []
def dkwX2_addWeights_3 : List UInt8 := [3, 4, 42, 180, 0, 37, 184, 0, 102, 45, 89, 180, 0, 172, 28, 96, 181, 0, 172, 42, 89, 180, 0, 37]
abbrev dktX2_addWeights_3 : List UInt8 := dkwX2_addWeights_3 ++ dktX2_addWeights_4
def dkwX2_addWeights_2 : List UInt8 := [184, 0, 89, 16, 9, 45, 180, 0, 172, 184, 0, 102, 42, 180, 0, 37, 28, 161, 0, 7, 4, 167, 0, 4]
abbrev dktX2_addWeights_2 : List UInt8 := dkwX2_addWeights_2 ++ dktX2_addWeights_3
def dkwX2_addWeights_1 : List UInt8 := [4, 167, 0, 4, 3, 184, 0, 93, 45, 182, 0, 151, 45, 180, 0, 172, 28, 96, 133, 9, 20, 0, 170]
abbrev dktX2_addWeights_1 : List UInt8 := dkwX2_addWeights_1 ++ dktX2_addWeights_2
def dkwX2_addWeights_0 : List UInt8 := [42, 27, 182, 0, 97, 78, 28, 153, 0, 21, 28, 133, 20, 0, 168, 20, 0, 170, 184, 0, 89, 153, 0, 7]
abbrev dktX2_addWeights_0 : List UInt8 := dkwX2_addWeights_0 ++ dktX2_addWeights_1
theorem dksX2_addWeights_0 : cX2_addWeights.data.toList.drop 0 = dktX2_addWeights_0 := by decide +kernel
theorem dksX2_addWeights_1 : cX2_addWeights.data.toList.drop 24 = dktX2_addWeights_1 := dk_seg dksX2_addWeights_0 24 rfl rfl
theorem dksX2_addWeights_2 : cX2_addWeights.data.toList.drop 47 = dktX2_addWeights_2 := dk_seg dksX2_addWeights_1 23 rfl rfl
theorem dksX2_addWeights_3 : cX2_addWeights.data.toList.drop 71 = dktX2_addWeights_3 := dk_seg dksX2_addWeights_2 24 rfl rfl
theorem dksX2_addWeights_4 : cX2_addWeights.data.toList.drop 95 = dktX2_addWeights_4 := dk_seg dksX2_addWeights_3 24 rfl rfl
theorem dX2_addWeights_0 : decode cX2_addWeights 0 = .ok (.aload_n 0, 1) := dk_42 (dk_at dksX2_addWeights_0 0 rfl rfl)
theorem dX2_addWeights_1 : decode cX2_addWeights 1 = .ok (.iload_n 1, 1) := dk_27 (dk_at dksX2_addWeights_0 1 rfl rfl)
theorem dX2_addWeights_2 : decode cX2_addWeights 2 = .ok (.invokevirtual 97, 3) := dk_182 0 97 (dk_at dksX2_addWeights_0 2 rfl rfl)
theorem dX2_addWeights_5 : decode cX2_addWeights 5 = .ok (.astore_n 3, 1) := dk_78 (dk_at dksX2_addWeights_0 5 rfl rfl)
theorem dX2_addWeights_6 : decode cX2_addWeights 6 = .ok (.iload_n 2, 1) := dk_28 (dk_at dksX2_addWeights_0 6 rfl rfl)
theorem dX2_addWeights_7 : decode cX2_addWeights 7 = .ok (.ifCond .eq 21, 3) := dk_153 0 21 (dk_at dksX2_addWeights_0 7 rfl rfl)
theorem dX2_addWeights_10 : decode cX2_addWeights 10 = .ok (.iload_n 2, 1) := dk_28 (dk_at dksX2_addWeights_0 10 rfl rfl)
theorem dX2_addWeights_11 : decode cX2_addWeights 11 = .ok (.i2l, 1) := dk_133 (dk_at dksX2_addWeights_0 11 rfl rfl)
theorem dX2_addWeights_12 : decode cX2_addWeights 12 = .ok (.ldc2_w 168, 3) := dk_20 0 168 (dk_at dksX2_addWeights_0 12 rfl rfl)
theorem dX2_addWeights_15 : decode cX2_addWeights 15 = .ok (.ldc2_w 170, 3) := dk_20 0 170 (dk_at dksX2_addWeights_0 15 rfl rfl)
theorem dX2_addWeights_18 : decode cX2_addWeights 18 = .ok (.invokestatic 89, 3) := dk_184 0 89 (dk_at dksX2_addWeights_0 18 rfl rfl)
theorem dX2_addWeights_21 : decode cX2_addWeights 21 = .ok (.ifCond .eq 7, 3) := dk_153 0 7 (dk_at dksX2_addWeights_0 21 rfl rfl)
theorem dX2_addWeights_24 : decode cX2_addWeights 24 = .ok (.iconst 1, 1) := dk_4 (dk_at dksX2_addWeights_1 0 rfl rfl)
theorem dX2_addWeights_25 : decode cX2_addWeights 25 = .ok (.goto 4, 3) := dk_167 0 4 (dk_at dksX2_addWeights_1 1 rfl rfl)
theorem dX2_addWeights_28 : decode cX2_addWeights 28 = .ok (.iconst 0, 1) := dk_3 (dk_at dksX2_addWeights_1 4 rfl rfl)
theorem dX2_addWeights_29 : decode cX2_addWeights 29 = .ok (.invokestatic 93, 3) := dk_184 0 93 (dk_at dksX2_addWeights_1 5 rfl rfl)
theorem dX2_addWeights_32 : decode cX2_addWeights 32 = .ok (.aload_n 3, 1) := dk_45 (dk_at dksX2_addWeights_1 8 rfl rfl)
theorem dX2_addWeights_33 : decode cX2_addWeights 33 = .ok (.invokevirtual 151, 3) := dk_182 0 151 (dk_at dksX2_addWeights_1 9 rfl rfl)
theorem dX2_addWeights_36 : decode cX2_addWeights 36 = .ok (.aload_n 3, 1) := dk_45 (dk_at dksX2_addWeights_1 12 rfl rfl)
theorem dX2_addWeights_37 : decode cX2_addWeights 37 = .ok (.getfield 172, 3) := dk_180 0 172 (dk_at dksX2_addWeights_1 13 rfl rfl)
theorem dX2_addWeights_40 : decode cX2_addWeights 40 = .ok (.iload_n 2, 1) := dk_28 (dk_at dksX2_addWeights_1 16 rfl rfl)
theorem dX2_addWeights_41 : decode cX2_addWeights 41 = .ok (.iadd, 1) := dk_96 (dk_at dksX2_addWeights_1 17 rfl rfl)
theorem dX2_addWeights_42 : decode cX2_addWeights 42 = .ok (.i2l, 1) := dk_133 (dk_at dksX2_addWeights_1 18 rfl rfl)
theorem dX2_addWeights_43 : decode cX2_addWeights 43 = .ok (.lconst 0, 1) := dk_9 (dk_at dksX2_addWeights_1 19 rfl rfl)
theorem dX2_addWeights_44 : decode cX2_addWeights 44 = .ok (.ldc2_w 170, 3) := dk_20 0 170 (dk_at dksX2_addWeights_1 20 rfl rfl)
theorem dX2_addWeights_47 : decode cX2_addWeights 47 = .ok (.invokestatic 89, 3) := dk_184 0 89 (dk_at dksX2_addWeights_2 0 rfl rfl)
theorem dX2_addWeights_50 : decode cX2_addWeights 50 = .ok (.bipush 9, 2) := dk_16 9 (dk_at dksX2_addWeights_2 3 rfl rfl)
theorem dX2_addWeights_52 : decode cX2_addWeights 52 = .ok (.aload_n 3, 1) := dk_45 (dk_at dksX2_addWeights_2 5 rfl rfl)
theorem dX2_addWeights_53 : decode cX2_addWeights 53 = .ok (.getfield 172, 3) := dk_180 0 172 (dk_at dksX2_addWeights_2 6 rfl rfl)
theorem dX2_addWeights_56 : decode cX2_addWeights 56 = .ok (.invokestatic 102, 3) := dk_184 0 102 (dk_at dksX2_addWeights_2 9 rfl rfl)
theorem dX2_addWeights_59 : decode cX2_addWeights 59 = .ok (.aload_n 0, 1) := dk_42 (dk_at dksX2_addWeights_2 12 rfl rfl)
theorem dX2_addWeights_60 : decode cX2_addWeights 60 = .ok (.getfield 37, 3) := dk_180 0 37 (dk_at dksX2_addWeights_2 13 rfl rfl)
theorem dX2_addWeights_63 : decode cX2_addWeights 63 = .ok (.iload_n 2, 1) := dk_28 (dk_at dksX2_addWeights_2 16 rfl rfl)
theorem dX2_addWeights_64 : decode cX2_addWeights 64 = .ok (.if_icmp .lt 7, 3) := dk_161 0 7 (dk_at dksX2_addWeights_2 17 rfl rfl)
theorem dX2_addWeights_67 : decode cX2_addWeights 67 = .ok (.iconst 1, 1) := dk_4 (dk_at dksX2_addWeights_2 20 rfl rfl)
theorem dX2_addWeights_68 : decode cX2_addWeights 68 = .ok (.goto 4, 3) := dk_167 0 4 (dk_at dksX2_addWeights_2 21 rfl rfl)
theorem dX2_addWeights_71 : decode cX2_addWeights 71 = .ok (.iconst 0, 1) := dk_3 (dk_at dksX2_addWeights_3 0 rfl rfl)
theorem dX2_addWeights_72 : decode cX2_addWeights 72 = .ok (.iconst 1, 1) := dk_4 (dk_at dksX2_addWeights_3 1 rfl rfl)
theorem dX2_addWeights_73 : decode cX2_addWeights 73 = .ok (.aload_n 0, 1) := dk_42 (dk_at dksX2_addWeights_3 2 rfl rfl)
theorem dX2_addWeights_74 : decode cX2_addWeights 74 = .ok (.getfield 37, 3) := dk_180 0 37 (dk_at dksX2_addWeights_3 3 rfl rfl)
theorem dX2_addWeights_77 : decode cX2_addWeights 77 = .ok (.invokestatic 102, 3) := dk_184 0 102 (dk_at dksX2_addWeights_3 6 rfl rfl)
theorem dX2_addWeights_80 : decode cX2_addWeights 80 = .ok (.aload_n 3, 1) := dk_45 (dk_at dksX2_addWeights_3 9 rfl rfl)
theorem dX2_addWeights_81 : decode cX2_addWeights 81 = .ok (.dup, 1) := dk_89 (dk_at dksX2_addWeights_3 10 rfl rfl)
theorem dX2_addWeights_82 : decode cX2_addWeights 82 = .ok (.getfield 172, 3) := dk_180 0 172 (dk_at dksX2_addWeights_3 11 rfl rfl)
theorem dX2_addWeights_85 : decode cX2_addWeights 85 = .ok (.iload_n 2, 1) := dk_28 (dk_at dksX2_addWeights_3 14 rfl rfl)
theorem dX2_addWeights_86 : decode cX2_addWeights 86 = .ok (.iadd, 1) := dk_96 (dk_at dksX2_addWeights_3 15 rfl rfl)
theorem dX2_addWeights_87 : decode cX2_addWeights 87 = .ok (.putfield 172, 3) := dk_181 0 172 (dk_at dksX2_addWeights_3 16 rfl rfl)
theorem dX2_addWeights_90 : decode cX2_addWeights 90 = .ok (.aload_n 0, 1) := dk_42 (dk_at dksX2_addWeights_3 19 rfl rfl)
theorem dX2_addWeights_91 : decode cX2_addWeights 91 = .ok (.dup, 1) := dk_89 (dk_at dksX2_addWeights_3 20 rfl rfl)
theorem dX2_addWeights_92 : decode cX2_addWeights 92 = .ok (.getfield 37, 3) := dk_180 0 37 (dk_at dksX2_addWeights_3 21 rfl rfl)
theorem dX2_addWeights_95 : decode cX2_addWeights 95 = .ok (.iload_n 2, 1) := dk_28 (dk_at dksX2_addWeights_4 0 rfl rfl)
theorem dX2_addWeights_96 : decode cX2_addWeights 96 = .ok (.isub, 1) := dk_100 (dk_at dksX2_addWeights_4 1 rfl rfl)
theorem dX2_addWeights_97 : decode cX2_addWeights 97 = .ok (.putfield 37, 3) := dk_181 0 37 (dk_at dksX2_addWeights_4 2 rfl rfl)
theorem dX2_addWeights_100 : decode cX2_addWeights 100 = .ok (.aload_n 3, 1) := dk_45 (dk_at dksX2_addWeights_4 5 rfl rfl)
theorem dX2_addWeights_101 : decode cX2_addWeights 101 = .ok (.getfield 172, 3) := dk_180 0 172 (dk_at dksX2_addWeights_4 6 rfl rfl)
theorem dX2_addWeights_104 : decode cX2_addWeights 104 = .ok (.ireturn, 1) := dk_172 (dk_at dksX2_addWeights_4 9 rfl rfl)
abbrev cX2_fly : ByteArray := prog_18_method_28_code
def yX2_fly : MethodName := ⟨RX2, "fly", "(II)I"⟩
def dkwX2_fly_0 : List UInt8 := [42, 27, 182, 0, 97, 78, 28, 184, 1, 14, 42, 45, 182, 1, 0, 42, 45, 28, 182, 1, 17, 172]
abbrev dktX2_fly_0 : List UInt8 := dkwX2_fly_0 ++ []
theorem dksX2_fly_0 : cX2_fly.data.toList.drop 0 = dktX2_fly_0 := by decide +kernel
theorem dX2_fly_0 : decode cX2_fly 0 = .ok (.aload_n 0, 1) := dk_42 (dk_at dksX2_fly_0 0 rfl rfl)
theorem dX2_fly_1 : decode cX2_fly 1 = .ok (.iload_n 1, 1) := dk_27 (dk_at dksX2_fly_0 1 rfl rfl)
theorem dX2_fly_2 : decode cX2_fly 2 = .ok (.invokevirtual 97, 3) := dk_182 0 97 (dk_at dksX2_fly_0 2 rfl rfl)
theorem dX2_fly_5 : decode cX2_fly 5 = .ok (.astore_n 3, 1) := dk_78 (dk_at dksX2_fly_0 5 rfl rfl)
theorem dX2_fly_6 : decode cX2_fly 6 = .ok (.iload_n 2, 1) := dk_28 (dk_at dksX2_fly_0 6 rfl rfl)
theorem dX2_fly_7 : decode cX2_fly 7 = .ok (.invokestatic 270, 3) := dk_184 1 14 (dk_at dksX2_fly_0 7 rfl rfl)
theorem dX2_fly_10 : decode cX2_fly 10 = .ok (.aload_n 0, 1) := dk_42 (dk_at dksX2_fly_0 10 rfl rfl)
theorem dX2_fly_11 : decode cX2_fly 11 = .ok (.aload_n 3, 1) := dk_45 (dk_at dksX2_fly_0 11 rfl rfl)
theorem dX2_fly_12 : decode cX2_fly 12 = .ok (.invokevirtual 256, 3) := dk_182 1 0 (dk_at dksX2_fly_0 12 rfl rfl)
theorem dX2_fly_15 : decode cX2_fly 15 = .ok (.aload_n 0, 1) := dk_42 (dk_at dksX2_fly_0 15 rfl rfl)
theorem dX2_fly_16 : decode cX2_fly 16 = .ok (.aload_n 3, 1) := dk_45 (dk_at dksX2_fly_0 16 rfl rfl)
theorem dX2_fly_17 : decode cX2_fly 17 = .ok (.iload_n 2, 1) := dk_28 (dk_at dksX2_fly_0 17 rfl rfl)
theorem dX2_fly_18 : decode cX2_fly 18 = .ok (.invokevirtual 273, 3) := dk_182 1 17 (dk_at dksX2_fly_0 18 rfl rfl)
theorem dX2_fly_21 : decode cX2_fly 21 = .ok (.ireturn, 1) := dk_172 (dk_at dksX2_fly_0 21 rfl rfl)
abbrev cX2_setDoor : ByteArray := prog_18_method_22_code
def yX2_setDoor : MethodName := ⟨RX2, "setDoor", "(IZ)I"⟩
def dkwX2_setDoor_0 : List UInt8 := [27, 133, 9, 20, 0, 238, 184, 0, 89, 184, 0, 240, 42, 180, 0, 29, 27, 28, 84, 42, 182, 0, 243, 172]
abbrev dktX2_setDoor_0 : List UInt8 := dkwX2_setDoor_0 ++ []
theorem dksX2_setDoor_0 : cX2_setDoor.data.toList.drop 0 = dktX2_setDoor_0 := by decide +kernel
theorem dX2_setDoor_0 : decode cX2_setDoor 0 = .ok (.iload_n 1, 1) := dk_27 (dk_at dksX2_setDoor_0 0 rfl rfl)
theorem dX2_setDoor_1 : decode cX2_setDoor 1 = .ok (.i2l, 1) := dk_133 (dk_at dksX2_setDoor_0 1 rfl rfl)
theorem dX2_setDoor_2 : decode cX2_setDoor 2 = .ok (.lconst 0, 1) := dk_9 (dk_at dksX2_setDoor_0 2 rfl rfl)
theorem dX2_setDoor_3 : decode cX2_setDoor 3 = .ok (.ldc2_w 238, 3) := dk_20 0 238 (dk_at dksX2_setDoor_0 3 rfl rfl)
theorem dX2_setDoor_6 : decode cX2_setDoor 6 = .ok (.invokestatic 89, 3) := dk_184 0 89 (dk_at dksX2_setDoor_0 6 rfl rfl)
theorem dX2_setDoor_9 : decode cX2_setDoor 9 = .ok (.invokestatic 240, 3) := dk_184 0 240 (dk_at dksX2_setDoor_0 9 rfl rfl)
theorem dX2_setDoor_12 : decode cX2_setDoor 12 = .ok (.aload_n 0, 1) := dk_42 (dk_at dksX2_setDoor_0 12 rfl rfl)
theorem dX2_setDoor_13 : decode cX2_setDoor 13 = .ok (.getfield 29, 3) := dk_180 0 29 (dk_at dksX2_setDoor_0 13 rfl rfl)
theorem dX2_setDoor_16 : decode cX2_setDoor 16 = .ok (.iload_n 1, 1) := dk_27 (dk_at dksX2_setDoor_0 16 rfl rfl)
theorem dX2_setDoor_17 : decode cX2_setDoor 17 = .ok (.iload_n 2, 1) := dk_28 (dk_at dksX2_setDoor_0 17 rfl rfl)
theorem dX2_setDoor_18 : decode cX2_setDoor 18 = .ok (.bastore, 1) := dk_84 (dk_at dksX2_setDoor_0 18 rfl rfl)
theorem dX2_setDoor_19 : decode cX2_setDoor 19 = .ok (.aload_n 0, 1) := dk_42 (dk_at dksX2_setDoor_0 19 rfl rfl)
theorem dX2_setDoor_20 : decode cX2_setDoor 20 = .ok (.invokevirtual 243, 3) := dk_182 0 243 (dk_at dksX2_setDoor_0 20 rfl rfl)
theorem dX2_setDoor_23 : decode cX2_setDoor 23 = .ok (.ireturn, 1) := dk_172 (dk_at dksX2_setDoor_0 23 rfl rfl)
abbrev cX2_age : ByteArray := prog_18_method_9_code
def yX2_age : MethodName := ⟨RX2, "age", "(I)I"⟩
def dkwX2_age_3 : List UInt8 := [182, 0, 128, 164, 0, 7, 4, 167, 0, 4, 3, 96, 61, 167, 255, 204, 28, 172]
abbrev dktX2_age_3 : List UInt8 := dkwX2_age_3 ++ []
def dkwX2_age_2 : List UInt8 := [192, 0, 72, 58, 4, 25, 4, 89, 180, 0, 101, 27, 96, 181, 0, 101, 28, 25, 4, 182, 0, 124, 25, 4]
abbrev dktX2_age_2 : List UInt8 := dkwX2_age_2 ++ dktX2_age_3
def dkwX2_age_1 : List UInt8 := [42, 180, 0, 14, 182, 0, 110, 78, 45, 185, 0, 114, 1, 0, 153, 0, 49, 45, 185, 0, 120, 1, 0]
abbrev dktX2_age_1 : List UInt8 := dkwX2_age_1 ++ dktX2_age_2
def dkwX2_age_0 : List UInt8 := [27, 133, 10, 20, 0, 108, 184, 0, 89, 184, 0, 93, 42, 89, 180, 0, 57, 27, 96, 181, 0, 57, 3, 61]
abbrev dktX2_age_0 : List UInt8 := dkwX2_age_0 ++ dktX2_age_1
theorem dksX2_age_0 : cX2_age.data.toList.drop 0 = dktX2_age_0 := by decide +kernel
theorem dksX2_age_1 : cX2_age.data.toList.drop 24 = dktX2_age_1 := dk_seg dksX2_age_0 24 rfl rfl
theorem dksX2_age_2 : cX2_age.data.toList.drop 47 = dktX2_age_2 := dk_seg dksX2_age_1 23 rfl rfl
theorem dksX2_age_3 : cX2_age.data.toList.drop 71 = dktX2_age_3 := dk_seg dksX2_age_2 24 rfl rfl
theorem dX2_age_0 : decode cX2_age 0 = .ok (.iload_n 1, 1) := dk_27 (dk_at dksX2_age_0 0 rfl rfl)
theorem dX2_age_1 : decode cX2_age 1 = .ok (.i2l, 1) := dk_133 (dk_at dksX2_age_0 1 rfl rfl)
theorem dX2_age_2 : decode cX2_age 2 = .ok (.lconst 1, 1) := dk_10 (dk_at dksX2_age_0 2 rfl rfl)
theorem dX2_age_3 : decode cX2_age 3 = .ok (.ldc2_w 108, 3) := dk_20 0 108 (dk_at dksX2_age_0 3 rfl rfl)
theorem dX2_age_6 : decode cX2_age 6 = .ok (.invokestatic 89, 3) := dk_184 0 89 (dk_at dksX2_age_0 6 rfl rfl)
theorem dX2_age_9 : decode cX2_age 9 = .ok (.invokestatic 93, 3) := dk_184 0 93 (dk_at dksX2_age_0 9 rfl rfl)
theorem dX2_age_12 : decode cX2_age 12 = .ok (.aload_n 0, 1) := dk_42 (dk_at dksX2_age_0 12 rfl rfl)
theorem dX2_age_13 : decode cX2_age 13 = .ok (.dup, 1) := dk_89 (dk_at dksX2_age_0 13 rfl rfl)
theorem dX2_age_14 : decode cX2_age 14 = .ok (.getfield 57, 3) := dk_180 0 57 (dk_at dksX2_age_0 14 rfl rfl)
theorem dX2_age_17 : decode cX2_age 17 = .ok (.iload_n 1, 1) := dk_27 (dk_at dksX2_age_0 17 rfl rfl)
theorem dX2_age_18 : decode cX2_age 18 = .ok (.iadd, 1) := dk_96 (dk_at dksX2_age_0 18 rfl rfl)
theorem dX2_age_19 : decode cX2_age 19 = .ok (.putfield 57, 3) := dk_181 0 57 (dk_at dksX2_age_0 19 rfl rfl)
theorem dX2_age_22 : decode cX2_age 22 = .ok (.iconst 0, 1) := dk_3 (dk_at dksX2_age_0 22 rfl rfl)
theorem dX2_age_23 : decode cX2_age 23 = .ok (.istore_n 2, 1) := dk_61 (dk_at dksX2_age_0 23 rfl rfl)
theorem dX2_age_24 : decode cX2_age 24 = .ok (.aload_n 0, 1) := dk_42 (dk_at dksX2_age_1 0 rfl rfl)
theorem dX2_age_25 : decode cX2_age 25 = .ok (.getfield 14, 3) := dk_180 0 14 (dk_at dksX2_age_1 1 rfl rfl)
theorem dX2_age_28 : decode cX2_age 28 = .ok (.invokevirtual 110, 3) := dk_182 0 110 (dk_at dksX2_age_1 4 rfl rfl)
theorem dX2_age_31 : decode cX2_age 31 = .ok (.astore_n 3, 1) := dk_78 (dk_at dksX2_age_1 7 rfl rfl)
theorem dX2_age_32 : decode cX2_age 32 = .ok (.aload_n 3, 1) := dk_45 (dk_at dksX2_age_1 8 rfl rfl)
theorem dX2_age_33 : decode cX2_age 33 = .ok (.invokeinterface 114 1, 5) := by decide +kernel
theorem dX2_age_38 : decode cX2_age 38 = .ok (.ifCond .eq 49, 3) := dk_153 0 49 (dk_at dksX2_age_1 14 rfl rfl)
theorem dX2_age_41 : decode cX2_age 41 = .ok (.aload_n 3, 1) := dk_45 (dk_at dksX2_age_1 17 rfl rfl)
theorem dX2_age_42 : decode cX2_age 42 = .ok (.invokeinterface 120 1, 5) := by decide +kernel
theorem dX2_age_47 : decode cX2_age 47 = .ok (.checkcast 72, 3) := dk_192 0 72 (dk_at dksX2_age_2 0 rfl rfl)
theorem dX2_age_50 : decode cX2_age 50 = .ok (.astore 4, 2) := dk_58 4 (dk_at dksX2_age_2 3 rfl rfl)
theorem dX2_age_52 : decode cX2_age 52 = .ok (.aload 4, 2) := dk_25 4 (dk_at dksX2_age_2 5 rfl rfl)
theorem dX2_age_54 : decode cX2_age 54 = .ok (.dup, 1) := dk_89 (dk_at dksX2_age_2 7 rfl rfl)
theorem dX2_age_55 : decode cX2_age 55 = .ok (.getfield 101, 3) := dk_180 0 101 (dk_at dksX2_age_2 8 rfl rfl)
theorem dX2_age_58 : decode cX2_age 58 = .ok (.iload_n 1, 1) := dk_27 (dk_at dksX2_age_2 11 rfl rfl)
theorem dX2_age_59 : decode cX2_age 59 = .ok (.iadd, 1) := dk_96 (dk_at dksX2_age_2 12 rfl rfl)
theorem dX2_age_60 : decode cX2_age 60 = .ok (.putfield 101, 3) := dk_181 0 101 (dk_at dksX2_age_2 13 rfl rfl)
theorem dX2_age_63 : decode cX2_age 63 = .ok (.iload_n 2, 1) := dk_28 (dk_at dksX2_age_2 16 rfl rfl)
theorem dX2_age_64 : decode cX2_age 64 = .ok (.aload 4, 2) := dk_25 4 (dk_at dksX2_age_2 17 rfl rfl)
theorem dX2_age_66 : decode cX2_age 66 = .ok (.invokevirtual 124, 3) := dk_182 0 124 (dk_at dksX2_age_2 19 rfl rfl)
theorem dX2_age_69 : decode cX2_age 69 = .ok (.aload 4, 2) := dk_25 4 (dk_at dksX2_age_2 22 rfl rfl)
theorem dX2_age_71 : decode cX2_age 71 = .ok (.invokevirtual 128, 3) := dk_182 0 128 (dk_at dksX2_age_3 0 rfl rfl)
theorem dX2_age_74 : decode cX2_age 74 = .ok (.if_icmp .le 7, 3) := dk_164 0 7 (dk_at dksX2_age_3 3 rfl rfl)
theorem dX2_age_77 : decode cX2_age 77 = .ok (.iconst 1, 1) := dk_4 (dk_at dksX2_age_3 6 rfl rfl)
theorem dX2_age_78 : decode cX2_age 78 = .ok (.goto 4, 3) := dk_167 0 4 (dk_at dksX2_age_3 7 rfl rfl)
theorem dX2_age_81 : decode cX2_age 81 = .ok (.iconst 0, 1) := dk_3 (dk_at dksX2_age_3 10 rfl rfl)
theorem dX2_age_82 : decode cX2_age 82 = .ok (.iadd, 1) := dk_96 (dk_at dksX2_age_3 11 rfl rfl)
theorem dX2_age_83 : decode cX2_age 83 = .ok (.istore_n 2, 1) := dk_61 (dk_at dksX2_age_3 12 rfl rfl)
theorem dX2_age_84 : decode cX2_age 84 = .ok (.goto (-52), 3) := dk_167 255 204 (dk_at dksX2_age_3 13 rfl rfl)
theorem dX2_age_87 : decode cX2_age 87 = .ok (.iload_n 2, 1) := dk_28 (dk_at dksX2_age_3 16 rfl rfl)
theorem dX2_age_88 : decode cX2_age 88 = .ok (.ireturn, 1) := dk_172 (dk_at dksX2_age_3 17 rfl rfl)
abbrev cX2_setTold : ByteArray := prog_18_method_7_code
def yX2_setTold : MethodName := ⟨RX2, "setTold", "(I)I"⟩
def dkwX2_setTold_0 : List UInt8 := [27, 133, 9, 20, 0, 87, 184, 0, 89, 184, 0, 93, 42, 180, 0, 33, 61, 42, 27, 181, 0, 33, 28, 172]
abbrev dktX2_setTold_0 : List UInt8 := dkwX2_setTold_0 ++ []
theorem dksX2_setTold_0 : cX2_setTold.data.toList.drop 0 = dktX2_setTold_0 := by decide +kernel
theorem dX2_setTold_0 : decode cX2_setTold 0 = .ok (.iload_n 1, 1) := dk_27 (dk_at dksX2_setTold_0 0 rfl rfl)
theorem dX2_setTold_1 : decode cX2_setTold 1 = .ok (.i2l, 1) := dk_133 (dk_at dksX2_setTold_0 1 rfl rfl)
theorem dX2_setTold_2 : decode cX2_setTold 2 = .ok (.lconst 0, 1) := dk_9 (dk_at dksX2_setTold_0 2 rfl rfl)
theorem dX2_setTold_3 : decode cX2_setTold 3 = .ok (.ldc2_w 87, 3) := dk_20 0 87 (dk_at dksX2_setTold_0 3 rfl rfl)
theorem dX2_setTold_6 : decode cX2_setTold 6 = .ok (.invokestatic 89, 3) := dk_184 0 89 (dk_at dksX2_setTold_0 6 rfl rfl)
theorem dX2_setTold_9 : decode cX2_setTold 9 = .ok (.invokestatic 93, 3) := dk_184 0 93 (dk_at dksX2_setTold_0 9 rfl rfl)
theorem dX2_setTold_12 : decode cX2_setTold 12 = .ok (.aload_n 0, 1) := dk_42 (dk_at dksX2_setTold_0 12 rfl rfl)
theorem dX2_setTold_13 : decode cX2_setTold 13 = .ok (.getfield 33, 3) := dk_180 0 33 (dk_at dksX2_setTold_0 13 rfl rfl)
theorem dX2_setTold_16 : decode cX2_setTold 16 = .ok (.istore_n 2, 1) := dk_61 (dk_at dksX2_setTold_0 16 rfl rfl)
theorem dX2_setTold_17 : decode cX2_setTold 17 = .ok (.aload_n 0, 1) := dk_42 (dk_at dksX2_setTold_0 17 rfl rfl)
theorem dX2_setTold_18 : decode cX2_setTold 18 = .ok (.iload_n 1, 1) := dk_27 (dk_at dksX2_setTold_0 18 rfl rfl)
theorem dX2_setTold_19 : decode cX2_setTold 19 = .ok (.putfield 33, 3) := dk_181 0 33 (dk_at dksX2_setTold_0 19 rfl rfl)
theorem dX2_setTold_22 : decode cX2_setTold 22 = .ok (.iload_n 2, 1) := dk_28 (dk_at dksX2_setTold_0 22 rfl rfl)
theorem dX2_setTold_23 : decode cX2_setTold 23 = .ok (.ireturn, 1) := dk_172 (dk_at dksX2_setTold_0 23 rfl rfl)
abbrev cX2_renew : ByteArray := prog_18_method_8_code
def yX2_renew : MethodName := ⟨RX2, "renew", "(I)I"⟩
def dkwX2_renew_2 : List UInt8 := [42, 89, 180, 0, 40, 8, 100, 181, 0, 40, 44, 180, 0, 101, 62, 44, 3, 181, 0, 101, 29, 172]
abbrev dktX2_renew_2 : List UInt8 := dkwX2_renew_2 ++ []
def dkwX2_renew_1 : List UInt8 := [42, 180, 0, 40, 8, 161, 0, 7, 4, 167, 0, 4, 3, 16, 12, 8, 42, 180, 0, 40, 100, 184, 0, 102]
abbrev dktX2_renew_1 : List UInt8 := dkwX2_renew_1 ++ dktX2_renew_2
def dkwX2_renew_0 : List UInt8 := [42, 27, 182, 0, 97, 77, 44, 180, 0, 101, 158, 0, 7, 4, 167, 0, 4, 3, 16, 11, 27, 184, 0, 102]
abbrev dktX2_renew_0 : List UInt8 := dkwX2_renew_0 ++ dktX2_renew_1
theorem dksX2_renew_0 : cX2_renew.data.toList.drop 0 = dktX2_renew_0 := by decide +kernel
theorem dksX2_renew_1 : cX2_renew.data.toList.drop 24 = dktX2_renew_1 := dk_seg dksX2_renew_0 24 rfl rfl
theorem dksX2_renew_2 : cX2_renew.data.toList.drop 48 = dktX2_renew_2 := dk_seg dksX2_renew_1 24 rfl rfl
theorem dX2_renew_0 : decode cX2_renew 0 = .ok (.aload_n 0, 1) := dk_42 (dk_at dksX2_renew_0 0 rfl rfl)
theorem dX2_renew_1 : decode cX2_renew 1 = .ok (.iload_n 1, 1) := dk_27 (dk_at dksX2_renew_0 1 rfl rfl)
theorem dX2_renew_2 : decode cX2_renew 2 = .ok (.invokevirtual 97, 3) := dk_182 0 97 (dk_at dksX2_renew_0 2 rfl rfl)
theorem dX2_renew_5 : decode cX2_renew 5 = .ok (.astore_n 2, 1) := dk_77 (dk_at dksX2_renew_0 5 rfl rfl)
theorem dX2_renew_6 : decode cX2_renew 6 = .ok (.aload_n 2, 1) := dk_44 (dk_at dksX2_renew_0 6 rfl rfl)
theorem dX2_renew_7 : decode cX2_renew 7 = .ok (.getfield 101, 3) := dk_180 0 101 (dk_at dksX2_renew_0 7 rfl rfl)
theorem dX2_renew_10 : decode cX2_renew 10 = .ok (.ifCond .le 7, 3) := dk_158 0 7 (dk_at dksX2_renew_0 10 rfl rfl)
theorem dX2_renew_13 : decode cX2_renew 13 = .ok (.iconst 1, 1) := dk_4 (dk_at dksX2_renew_0 13 rfl rfl)
theorem dX2_renew_14 : decode cX2_renew 14 = .ok (.goto 4, 3) := dk_167 0 4 (dk_at dksX2_renew_0 14 rfl rfl)
theorem dX2_renew_17 : decode cX2_renew 17 = .ok (.iconst 0, 1) := dk_3 (dk_at dksX2_renew_0 17 rfl rfl)
theorem dX2_renew_18 : decode cX2_renew 18 = .ok (.bipush 11, 2) := dk_16 11 (dk_at dksX2_renew_0 18 rfl rfl)
theorem dX2_renew_20 : decode cX2_renew 20 = .ok (.iload_n 1, 1) := dk_27 (dk_at dksX2_renew_0 20 rfl rfl)
theorem dX2_renew_21 : decode cX2_renew 21 = .ok (.invokestatic 102, 3) := dk_184 0 102 (dk_at dksX2_renew_0 21 rfl rfl)
theorem dX2_renew_24 : decode cX2_renew 24 = .ok (.aload_n 0, 1) := dk_42 (dk_at dksX2_renew_1 0 rfl rfl)
theorem dX2_renew_25 : decode cX2_renew 25 = .ok (.getfield 40, 3) := dk_180 0 40 (dk_at dksX2_renew_1 1 rfl rfl)
theorem dX2_renew_28 : decode cX2_renew 28 = .ok (.iconst 5, 1) := dk_8 (dk_at dksX2_renew_1 4 rfl rfl)
theorem dX2_renew_29 : decode cX2_renew 29 = .ok (.if_icmp .lt 7, 3) := dk_161 0 7 (dk_at dksX2_renew_1 5 rfl rfl)
theorem dX2_renew_32 : decode cX2_renew 32 = .ok (.iconst 1, 1) := dk_4 (dk_at dksX2_renew_1 8 rfl rfl)
theorem dX2_renew_33 : decode cX2_renew 33 = .ok (.goto 4, 3) := dk_167 0 4 (dk_at dksX2_renew_1 9 rfl rfl)
theorem dX2_renew_36 : decode cX2_renew 36 = .ok (.iconst 0, 1) := dk_3 (dk_at dksX2_renew_1 12 rfl rfl)
theorem dX2_renew_37 : decode cX2_renew 37 = .ok (.bipush 12, 2) := dk_16 12 (dk_at dksX2_renew_1 13 rfl rfl)
theorem dX2_renew_39 : decode cX2_renew 39 = .ok (.iconst 5, 1) := dk_8 (dk_at dksX2_renew_1 15 rfl rfl)
theorem dX2_renew_40 : decode cX2_renew 40 = .ok (.aload_n 0, 1) := dk_42 (dk_at dksX2_renew_1 16 rfl rfl)
theorem dX2_renew_41 : decode cX2_renew 41 = .ok (.getfield 40, 3) := dk_180 0 40 (dk_at dksX2_renew_1 17 rfl rfl)
theorem dX2_renew_44 : decode cX2_renew 44 = .ok (.isub, 1) := dk_100 (dk_at dksX2_renew_1 20 rfl rfl)
theorem dX2_renew_45 : decode cX2_renew 45 = .ok (.invokestatic 102, 3) := dk_184 0 102 (dk_at dksX2_renew_1 21 rfl rfl)
theorem dX2_renew_48 : decode cX2_renew 48 = .ok (.aload_n 0, 1) := dk_42 (dk_at dksX2_renew_2 0 rfl rfl)
theorem dX2_renew_49 : decode cX2_renew 49 = .ok (.dup, 1) := dk_89 (dk_at dksX2_renew_2 1 rfl rfl)
theorem dX2_renew_50 : decode cX2_renew 50 = .ok (.getfield 40, 3) := dk_180 0 40 (dk_at dksX2_renew_2 2 rfl rfl)
theorem dX2_renew_53 : decode cX2_renew 53 = .ok (.iconst 5, 1) := dk_8 (dk_at dksX2_renew_2 5 rfl rfl)
theorem dX2_renew_54 : decode cX2_renew 54 = .ok (.isub, 1) := dk_100 (dk_at dksX2_renew_2 6 rfl rfl)
theorem dX2_renew_55 : decode cX2_renew 55 = .ok (.putfield 40, 3) := dk_181 0 40 (dk_at dksX2_renew_2 7 rfl rfl)
theorem dX2_renew_58 : decode cX2_renew 58 = .ok (.aload_n 2, 1) := dk_44 (dk_at dksX2_renew_2 10 rfl rfl)
theorem dX2_renew_59 : decode cX2_renew 59 = .ok (.getfield 101, 3) := dk_180 0 101 (dk_at dksX2_renew_2 11 rfl rfl)
theorem dX2_renew_62 : decode cX2_renew 62 = .ok (.istore_n 3, 1) := dk_62 (dk_at dksX2_renew_2 14 rfl rfl)
theorem dX2_renew_63 : decode cX2_renew 63 = .ok (.aload_n 2, 1) := dk_44 (dk_at dksX2_renew_2 15 rfl rfl)
theorem dX2_renew_64 : decode cX2_renew 64 = .ok (.iconst 0, 1) := dk_3 (dk_at dksX2_renew_2 16 rfl rfl)
theorem dX2_renew_65 : decode cX2_renew 65 = .ok (.putfield 101, 3) := dk_181 0 101 (dk_at dksX2_renew_2 17 rfl rfl)
theorem dX2_renew_68 : decode cX2_renew 68 = .ok (.iload_n 3, 1) := dk_29 (dk_at dksX2_renew_2 20 rfl rfl)
theorem dX2_renew_69 : decode cX2_renew 69 = .ok (.ireturn, 1) := dk_172 (dk_at dksX2_renew_2 21 rfl rfl)
abbrev cX2_addCurtain : ByteArray := prog_18_method_10_code
def yX2_addCurtain : MethodName := ⟨RX2, "addCurtain", "(I)I"⟩
def dkwX2_addCurtain_1 : List UInt8 := [180, 0, 20, 182, 0, 135, 27, 183, 0, 138, 182, 0, 141, 172]
abbrev dktX2_addCurtain_1 : List UInt8 := dkwX2_addCurtain_1 ++ []
def dkwX2_addCurtain_0 : List UInt8 := [27, 133, 20, 0, 131, 20, 0, 133, 184, 0, 89, 184, 0, 93, 42, 180, 0, 20, 187, 0, 74, 89, 42]
abbrev dktX2_addCurtain_0 : List UInt8 := dkwX2_addCurtain_0 ++ dktX2_addCurtain_1
theorem dksX2_addCurtain_0 : cX2_addCurtain.data.toList.drop 0 = dktX2_addCurtain_0 := by decide +kernel
theorem dksX2_addCurtain_1 : cX2_addCurtain.data.toList.drop 23 = dktX2_addCurtain_1 := dk_seg dksX2_addCurtain_0 23 rfl rfl
theorem dX2_addCurtain_0 : decode cX2_addCurtain 0 = .ok (.iload_n 1, 1) := dk_27 (dk_at dksX2_addCurtain_0 0 rfl rfl)
theorem dX2_addCurtain_1 : decode cX2_addCurtain 1 = .ok (.i2l, 1) := dk_133 (dk_at dksX2_addCurtain_0 1 rfl rfl)
theorem dX2_addCurtain_2 : decode cX2_addCurtain 2 = .ok (.ldc2_w 131, 3) := dk_20 0 131 (dk_at dksX2_addCurtain_0 2 rfl rfl)
theorem dX2_addCurtain_5 : decode cX2_addCurtain 5 = .ok (.ldc2_w 133, 3) := dk_20 0 133 (dk_at dksX2_addCurtain_0 5 rfl rfl)
theorem dX2_addCurtain_8 : decode cX2_addCurtain 8 = .ok (.invokestatic 89, 3) := dk_184 0 89 (dk_at dksX2_addCurtain_0 8 rfl rfl)
theorem dX2_addCurtain_11 : decode cX2_addCurtain 11 = .ok (.invokestatic 93, 3) := dk_184 0 93 (dk_at dksX2_addCurtain_0 11 rfl rfl)
theorem dX2_addCurtain_14 : decode cX2_addCurtain 14 = .ok (.aload_n 0, 1) := dk_42 (dk_at dksX2_addCurtain_0 14 rfl rfl)
theorem dX2_addCurtain_15 : decode cX2_addCurtain 15 = .ok (.getfield 20, 3) := dk_180 0 20 (dk_at dksX2_addCurtain_0 15 rfl rfl)
theorem dX2_addCurtain_18 : decode cX2_addCurtain 18 = .ok (.new 74, 3) := dk_187 0 74 (dk_at dksX2_addCurtain_0 18 rfl rfl)
theorem dX2_addCurtain_21 : decode cX2_addCurtain 21 = .ok (.dup, 1) := dk_89 (dk_at dksX2_addCurtain_0 21 rfl rfl)
theorem dX2_addCurtain_22 : decode cX2_addCurtain 22 = .ok (.aload_n 0, 1) := dk_42 (dk_at dksX2_addCurtain_0 22 rfl rfl)
theorem dX2_addCurtain_23 : decode cX2_addCurtain 23 = .ok (.getfield 20, 3) := dk_180 0 20 (dk_at dksX2_addCurtain_1 0 rfl rfl)
theorem dX2_addCurtain_26 : decode cX2_addCurtain 26 = .ok (.invokevirtual 135, 3) := dk_182 0 135 (dk_at dksX2_addCurtain_1 3 rfl rfl)
theorem dX2_addCurtain_29 : decode cX2_addCurtain 29 = .ok (.iload_n 1, 1) := dk_27 (dk_at dksX2_addCurtain_1 6 rfl rfl)
theorem dX2_addCurtain_30 : decode cX2_addCurtain 30 = .ok (.invokespecial 138, 3) := dk_183 0 138 (dk_at dksX2_addCurtain_1 7 rfl rfl)
theorem dX2_addCurtain_33 : decode cX2_addCurtain 33 = .ok (.invokevirtual 141, 3) := dk_182 0 141 (dk_at dksX2_addCurtain_1 10 rfl rfl)
theorem dX2_addCurtain_36 : decode cX2_addCurtain 36 = .ok (.ireturn, 1) := dk_172 (dk_at dksX2_addCurtain_1 13 rfl rfl)
abbrev cX2_addHand : ByteArray := prog_18_method_18_code
def yX2_addHand : MethodName := ⟨RX2, "addHand", "(II)I"⟩
def dkwX2_addHand_1 : List UInt8 := [42, 180, 0, 23, 182, 0, 135, 28, 27, 183, 0, 219, 182, 0, 141, 172]
abbrev dktX2_addHand_1 : List UInt8 := dkwX2_addHand_1 ++ []
def dkwX2_addHand_0 : List UInt8 := [27, 184, 0, 214, 28, 133, 10, 20, 0, 217, 184, 0, 89, 184, 0, 93, 42, 180, 0, 23, 187, 0, 76, 89]
abbrev dktX2_addHand_0 : List UInt8 := dkwX2_addHand_0 ++ dktX2_addHand_1
theorem dksX2_addHand_0 : cX2_addHand.data.toList.drop 0 = dktX2_addHand_0 := by decide +kernel
theorem dksX2_addHand_1 : cX2_addHand.data.toList.drop 24 = dktX2_addHand_1 := dk_seg dksX2_addHand_0 24 rfl rfl
theorem dX2_addHand_0 : decode cX2_addHand 0 = .ok (.iload_n 1, 1) := dk_27 (dk_at dksX2_addHand_0 0 rfl rfl)
theorem dX2_addHand_1 : decode cX2_addHand 1 = .ok (.invokestatic 214, 3) := dk_184 0 214 (dk_at dksX2_addHand_0 1 rfl rfl)
theorem dX2_addHand_4 : decode cX2_addHand 4 = .ok (.iload_n 2, 1) := dk_28 (dk_at dksX2_addHand_0 4 rfl rfl)
theorem dX2_addHand_5 : decode cX2_addHand 5 = .ok (.i2l, 1) := dk_133 (dk_at dksX2_addHand_0 5 rfl rfl)
theorem dX2_addHand_6 : decode cX2_addHand 6 = .ok (.lconst 1, 1) := dk_10 (dk_at dksX2_addHand_0 6 rfl rfl)
theorem dX2_addHand_7 : decode cX2_addHand 7 = .ok (.ldc2_w 217, 3) := dk_20 0 217 (dk_at dksX2_addHand_0 7 rfl rfl)
theorem dX2_addHand_10 : decode cX2_addHand 10 = .ok (.invokestatic 89, 3) := dk_184 0 89 (dk_at dksX2_addHand_0 10 rfl rfl)
theorem dX2_addHand_13 : decode cX2_addHand 13 = .ok (.invokestatic 93, 3) := dk_184 0 93 (dk_at dksX2_addHand_0 13 rfl rfl)
theorem dX2_addHand_16 : decode cX2_addHand 16 = .ok (.aload_n 0, 1) := dk_42 (dk_at dksX2_addHand_0 16 rfl rfl)
theorem dX2_addHand_17 : decode cX2_addHand 17 = .ok (.getfield 23, 3) := dk_180 0 23 (dk_at dksX2_addHand_0 17 rfl rfl)
theorem dX2_addHand_20 : decode cX2_addHand 20 = .ok (.new 76, 3) := dk_187 0 76 (dk_at dksX2_addHand_0 20 rfl rfl)
theorem dX2_addHand_23 : decode cX2_addHand 23 = .ok (.dup, 1) := dk_89 (dk_at dksX2_addHand_0 23 rfl rfl)
theorem dX2_addHand_24 : decode cX2_addHand 24 = .ok (.aload_n 0, 1) := dk_42 (dk_at dksX2_addHand_1 0 rfl rfl)
theorem dX2_addHand_25 : decode cX2_addHand 25 = .ok (.getfield 23, 3) := dk_180 0 23 (dk_at dksX2_addHand_1 1 rfl rfl)
theorem dX2_addHand_28 : decode cX2_addHand 28 = .ok (.invokevirtual 135, 3) := dk_182 0 135 (dk_at dksX2_addHand_1 4 rfl rfl)
theorem dX2_addHand_31 : decode cX2_addHand 31 = .ok (.iload_n 2, 1) := dk_28 (dk_at dksX2_addHand_1 7 rfl rfl)
theorem dX2_addHand_32 : decode cX2_addHand 32 = .ok (.iload_n 1, 1) := dk_27 (dk_at dksX2_addHand_1 8 rfl rfl)
theorem dX2_addHand_33 : decode cX2_addHand 33 = .ok (.invokespecial 219, 3) := dk_183 0 219 (dk_at dksX2_addHand_1 9 rfl rfl)
theorem dX2_addHand_36 : decode cX2_addHand 36 = .ok (.invokevirtual 141, 3) := dk_182 0 141 (dk_at dksX2_addHand_1 12 rfl rfl)
theorem dX2_addHand_39 : decode cX2_addHand 39 = .ok (.ireturn, 1) := dk_172 (dk_at dksX2_addHand_1 15 rfl rfl)
abbrev cX2_moveHand : ByteArray := prog_18_method_19_code
def yX2_moveHand : MethodName := ⟨RX2, "moveHand", "(II)I"⟩
def dkwX2_moveHand_0 : List UInt8 := [42, 27, 182, 0, 222, 78, 28, 184, 0, 214, 45, 28, 181, 0, 226, 42, 28, 182, 0, 229, 172]
abbrev dktX2_moveHand_0 : List UInt8 := dkwX2_moveHand_0 ++ []
theorem dksX2_moveHand_0 : cX2_moveHand.data.toList.drop 0 = dktX2_moveHand_0 := by decide +kernel
theorem dX2_moveHand_0 : decode cX2_moveHand 0 = .ok (.aload_n 0, 1) := dk_42 (dk_at dksX2_moveHand_0 0 rfl rfl)
theorem dX2_moveHand_1 : decode cX2_moveHand 1 = .ok (.iload_n 1, 1) := dk_27 (dk_at dksX2_moveHand_0 1 rfl rfl)
theorem dX2_moveHand_2 : decode cX2_moveHand 2 = .ok (.invokevirtual 222, 3) := dk_182 0 222 (dk_at dksX2_moveHand_0 2 rfl rfl)
theorem dX2_moveHand_5 : decode cX2_moveHand 5 = .ok (.astore_n 3, 1) := dk_78 (dk_at dksX2_moveHand_0 5 rfl rfl)
theorem dX2_moveHand_6 : decode cX2_moveHand 6 = .ok (.iload_n 2, 1) := dk_28 (dk_at dksX2_moveHand_0 6 rfl rfl)
theorem dX2_moveHand_7 : decode cX2_moveHand 7 = .ok (.invokestatic 214, 3) := dk_184 0 214 (dk_at dksX2_moveHand_0 7 rfl rfl)
theorem dX2_moveHand_10 : decode cX2_moveHand 10 = .ok (.aload_n 3, 1) := dk_45 (dk_at dksX2_moveHand_0 10 rfl rfl)
theorem dX2_moveHand_11 : decode cX2_moveHand 11 = .ok (.iload_n 2, 1) := dk_28 (dk_at dksX2_moveHand_0 11 rfl rfl)
theorem dX2_moveHand_12 : decode cX2_moveHand 12 = .ok (.putfield 226, 3) := dk_181 0 226 (dk_at dksX2_moveHand_0 12 rfl rfl)
theorem dX2_moveHand_15 : decode cX2_moveHand 15 = .ok (.aload_n 0, 1) := dk_42 (dk_at dksX2_moveHand_0 15 rfl rfl)
theorem dX2_moveHand_16 : decode cX2_moveHand 16 = .ok (.iload_n 2, 1) := dk_28 (dk_at dksX2_moveHand_0 16 rfl rfl)
theorem dX2_moveHand_17 : decode cX2_moveHand 17 = .ok (.invokevirtual 229, 3) := dk_182 0 229 (dk_at dksX2_moveHand_0 17 rfl rfl)
theorem dX2_moveHand_20 : decode cX2_moveHand 20 = .ok (.ireturn, 1) := dk_172 (dk_at dksX2_moveHand_0 20 rfl rfl)
abbrev cX2_hand : ByteArray := prog_18_method_5_code
def yX2_hand : MethodName := ⟨RX2, "hand", "(I)LCurtainRiggers$Hand;"⟩
def dkwX2_hand_0 : List UInt8 := [42, 180, 0, 23, 27, 184, 0, 66, 192, 0, 76, 176]
abbrev dktX2_hand_0 : List UInt8 := dkwX2_hand_0 ++ []
theorem dksX2_hand_0 : cX2_hand.data.toList.drop 0 = dktX2_hand_0 := by decide +kernel
theorem dX2_hand_0 : decode cX2_hand 0 = .ok (.aload_n 0, 1) := dk_42 (dk_at dksX2_hand_0 0 rfl rfl)
theorem dX2_hand_1 : decode cX2_hand 1 = .ok (.getfield 23, 3) := dk_180 0 23 (dk_at dksX2_hand_0 1 rfl rfl)
theorem dX2_hand_4 : decode cX2_hand 4 = .ok (.iload_n 1, 1) := dk_27 (dk_at dksX2_hand_0 4 rfl rfl)
theorem dX2_hand_5 : decode cX2_hand 5 = .ok (.invokestatic 66, 3) := dk_184 0 66 (dk_at dksX2_hand_0 5 rfl rfl)
theorem dX2_hand_8 : decode cX2_hand 8 = .ok (.checkcast 76, 3) := dk_192 0 76 (dk_at dksX2_hand_0 8 rfl rfl)
theorem dX2_hand_11 : decode cX2_hand 11 = .ok (.areturn, 1) := dk_176 (dk_at dksX2_hand_0 11 rfl rfl)
abbrev cX2_curtainsOn : ByteArray := prog_18_method_14_code
def yX2_curtainsOn : MethodName := ⟨RX2, "curtainsOn", "(I)Ljava/lang/Iterable;"⟩
def dkwX2_curtainsOn_2 : List UInt8 := [25, 4, 182, 0, 178, 153, 0, 7, 4, 167, 0, 4, 3, 54, 5, 167, 255, 211, 44, 176]
abbrev dktX2_curtainsOn_2 : List UInt8 := dkwX2_curtainsOn_2 ++ []
def dkwX2_curtainsOn_1 : List UInt8 := [153, 0, 42, 45, 185, 0, 120, 1, 0, 192, 0, 74, 58, 4, 25, 4, 180, 0, 149, 27, 160, 0, 16, 44]
abbrev dktX2_curtainsOn_1 : List UInt8 := dkwX2_curtainsOn_1 ++ dktX2_curtainsOn_2
def dkwX2_curtainsOn_0 : List UInt8 := [187, 0, 175, 89, 183, 0, 177, 77, 42, 180, 0, 20, 182, 0, 110, 78, 45, 185, 0, 114, 1, 0]
abbrev dktX2_curtainsOn_0 : List UInt8 := dkwX2_curtainsOn_0 ++ dktX2_curtainsOn_1
theorem dksX2_curtainsOn_0 : cX2_curtainsOn.data.toList.drop 0 = dktX2_curtainsOn_0 := by decide +kernel
theorem dksX2_curtainsOn_1 : cX2_curtainsOn.data.toList.drop 22 = dktX2_curtainsOn_1 := dk_seg dksX2_curtainsOn_0 22 rfl rfl
theorem dksX2_curtainsOn_2 : cX2_curtainsOn.data.toList.drop 46 = dktX2_curtainsOn_2 := dk_seg dksX2_curtainsOn_1 24 rfl rfl
theorem dX2_curtainsOn_0 : decode cX2_curtainsOn 0 = .ok (.new 175, 3) := dk_187 0 175 (dk_at dksX2_curtainsOn_0 0 rfl rfl)
theorem dX2_curtainsOn_3 : decode cX2_curtainsOn 3 = .ok (.dup, 1) := dk_89 (dk_at dksX2_curtainsOn_0 3 rfl rfl)
theorem dX2_curtainsOn_4 : decode cX2_curtainsOn 4 = .ok (.invokespecial 177, 3) := dk_183 0 177 (dk_at dksX2_curtainsOn_0 4 rfl rfl)
theorem dX2_curtainsOn_7 : decode cX2_curtainsOn 7 = .ok (.astore_n 2, 1) := dk_77 (dk_at dksX2_curtainsOn_0 7 rfl rfl)
theorem dX2_curtainsOn_8 : decode cX2_curtainsOn 8 = .ok (.aload_n 0, 1) := dk_42 (dk_at dksX2_curtainsOn_0 8 rfl rfl)
theorem dX2_curtainsOn_9 : decode cX2_curtainsOn 9 = .ok (.getfield 20, 3) := dk_180 0 20 (dk_at dksX2_curtainsOn_0 9 rfl rfl)
theorem dX2_curtainsOn_12 : decode cX2_curtainsOn 12 = .ok (.invokevirtual 110, 3) := dk_182 0 110 (dk_at dksX2_curtainsOn_0 12 rfl rfl)
theorem dX2_curtainsOn_15 : decode cX2_curtainsOn 15 = .ok (.astore_n 3, 1) := dk_78 (dk_at dksX2_curtainsOn_0 15 rfl rfl)
theorem dX2_curtainsOn_16 : decode cX2_curtainsOn 16 = .ok (.aload_n 3, 1) := dk_45 (dk_at dksX2_curtainsOn_0 16 rfl rfl)
theorem dX2_curtainsOn_17 : decode cX2_curtainsOn 17 = .ok (.invokeinterface 114 1, 5) := by decide +kernel
theorem dX2_curtainsOn_22 : decode cX2_curtainsOn 22 = .ok (.ifCond .eq 42, 3) := dk_153 0 42 (dk_at dksX2_curtainsOn_1 0 rfl rfl)
theorem dX2_curtainsOn_25 : decode cX2_curtainsOn 25 = .ok (.aload_n 3, 1) := dk_45 (dk_at dksX2_curtainsOn_1 3 rfl rfl)
theorem dX2_curtainsOn_26 : decode cX2_curtainsOn 26 = .ok (.invokeinterface 120 1, 5) := by decide +kernel
theorem dX2_curtainsOn_31 : decode cX2_curtainsOn 31 = .ok (.checkcast 74, 3) := dk_192 0 74 (dk_at dksX2_curtainsOn_1 9 rfl rfl)
theorem dX2_curtainsOn_34 : decode cX2_curtainsOn 34 = .ok (.astore 4, 2) := dk_58 4 (dk_at dksX2_curtainsOn_1 12 rfl rfl)
theorem dX2_curtainsOn_36 : decode cX2_curtainsOn 36 = .ok (.aload 4, 2) := dk_25 4 (dk_at dksX2_curtainsOn_1 14 rfl rfl)
theorem dX2_curtainsOn_38 : decode cX2_curtainsOn 38 = .ok (.getfield 149, 3) := dk_180 0 149 (dk_at dksX2_curtainsOn_1 16 rfl rfl)
theorem dX2_curtainsOn_41 : decode cX2_curtainsOn 41 = .ok (.iload_n 1, 1) := dk_27 (dk_at dksX2_curtainsOn_1 19 rfl rfl)
theorem dX2_curtainsOn_42 : decode cX2_curtainsOn 42 = .ok (.if_icmp .ne 16, 3) := dk_160 0 16 (dk_at dksX2_curtainsOn_1 20 rfl rfl)
theorem dX2_curtainsOn_45 : decode cX2_curtainsOn 45 = .ok (.aload_n 2, 1) := dk_44 (dk_at dksX2_curtainsOn_1 23 rfl rfl)
theorem dX2_curtainsOn_46 : decode cX2_curtainsOn 46 = .ok (.aload 4, 2) := dk_25 4 (dk_at dksX2_curtainsOn_2 0 rfl rfl)
theorem dX2_curtainsOn_48 : decode cX2_curtainsOn 48 = .ok (.invokevirtual 178, 3) := dk_182 0 178 (dk_at dksX2_curtainsOn_2 2 rfl rfl)
theorem dX2_curtainsOn_51 : decode cX2_curtainsOn 51 = .ok (.ifCond .eq 7, 3) := dk_153 0 7 (dk_at dksX2_curtainsOn_2 5 rfl rfl)
theorem dX2_curtainsOn_54 : decode cX2_curtainsOn 54 = .ok (.iconst 1, 1) := dk_4 (dk_at dksX2_curtainsOn_2 8 rfl rfl)
theorem dX2_curtainsOn_55 : decode cX2_curtainsOn 55 = .ok (.goto 4, 3) := dk_167 0 4 (dk_at dksX2_curtainsOn_2 9 rfl rfl)
theorem dX2_curtainsOn_58 : decode cX2_curtainsOn 58 = .ok (.iconst 0, 1) := dk_3 (dk_at dksX2_curtainsOn_2 12 rfl rfl)
theorem dX2_curtainsOn_59 : decode cX2_curtainsOn 59 = .ok (.istore 5, 2) := dk_54 5 (dk_at dksX2_curtainsOn_2 13 rfl rfl)
theorem dX2_curtainsOn_61 : decode cX2_curtainsOn 61 = .ok (.goto (-45), 3) := dk_167 255 211 (dk_at dksX2_curtainsOn_2 15 rfl rfl)
theorem dX2_curtainsOn_64 : decode cX2_curtainsOn 64 = .ok (.aload_n 2, 1) := dk_44 (dk_at dksX2_curtainsOn_2 18 rfl rfl)
theorem dX2_curtainsOn_65 : decode cX2_curtainsOn 65 = .ok (.areturn, 1) := dk_176 (dk_at dksX2_curtainsOn_2 19 rfl rfl)
abbrev cX2_bestBar : ByteArray := prog_18_method_16_code
def yX2_bestBar : MethodName := ⟨RX2, "bestBar", "(LCurtainRiggers$Curtain;)LCurtainRiggers$Bar;"⟩
def dkwX2_bestBar_0 : List UInt8 := [42, 182, 0, 184, 187, 0, 188, 89, 43, 183, 0, 190, 184, 0, 193, 192, 0, 72, 176]
abbrev dktX2_bestBar_0 : List UInt8 := dkwX2_bestBar_0 ++ []
theorem dksX2_bestBar_0 : cX2_bestBar.data.toList.drop 0 = dktX2_bestBar_0 := by decide +kernel
theorem dX2_bestBar_0 : decode cX2_bestBar 0 = .ok (.aload_n 0, 1) := dk_42 (dk_at dksX2_bestBar_0 0 rfl rfl)
theorem dX2_bestBar_1 : decode cX2_bestBar 1 = .ok (.invokevirtual 184, 3) := dk_182 0 184 (dk_at dksX2_bestBar_0 1 rfl rfl)
theorem dX2_bestBar_4 : decode cX2_bestBar 4 = .ok (.new 188, 3) := dk_187 0 188 (dk_at dksX2_bestBar_0 4 rfl rfl)
theorem dX2_bestBar_7 : decode cX2_bestBar 7 = .ok (.dup, 1) := dk_89 (dk_at dksX2_bestBar_0 7 rfl rfl)
theorem dX2_bestBar_8 : decode cX2_bestBar 8 = .ok (.aload_n 1, 1) := dk_43 (dk_at dksX2_bestBar_0 8 rfl rfl)
theorem dX2_bestBar_9 : decode cX2_bestBar 9 = .ok (.invokespecial 190, 3) := dk_183 0 190 (dk_at dksX2_bestBar_0 9 rfl rfl)
theorem dX2_bestBar_12 : decode cX2_bestBar 12 = .ok (.invokestatic 193, 3) := dk_184 0 193 (dk_at dksX2_bestBar_0 12 rfl rfl)
theorem dX2_bestBar_15 : decode cX2_bestBar 15 = .ok (.checkcast 72, 3) := dk_192 0 72 (dk_at dksX2_bestBar_0 15 rfl rfl)
theorem dX2_bestBar_18 : decode cX2_bestBar 18 = .ok (.areturn, 1) := dk_176 (dk_at dksX2_bestBar_0 18 rfl rfl)
abbrev cX2_low : ByteArray := prog_18_method_15_code
def yX2_low : MethodName := ⟨RX2, "low", "()Ljava/util/ArrayList;"⟩
def dkwX2_low_2 : List UInt8 := [182, 0, 178, 153, 0, 7, 4, 167, 0, 4, 3, 54, 4, 167, 255, 215, 43, 176]
abbrev dktX2_low_2 : List UInt8 := dkwX2_low_2 ++ []
def dkwX2_low_1 : List UInt8 := [153, 0, 38, 44, 185, 0, 120, 1, 0, 192, 0, 72, 78, 45, 180, 0, 181, 154, 0, 15, 43, 45]
abbrev dktX2_low_1 : List UInt8 := dkwX2_low_1 ++ dktX2_low_2
def dkwX2_low_0 : List UInt8 := [187, 0, 175, 89, 183, 0, 177, 76, 42, 180, 0, 14, 182, 0, 110, 77, 44, 185, 0, 114, 1, 0]
abbrev dktX2_low_0 : List UInt8 := dkwX2_low_0 ++ dktX2_low_1
theorem dksX2_low_0 : cX2_low.data.toList.drop 0 = dktX2_low_0 := by decide +kernel
theorem dksX2_low_1 : cX2_low.data.toList.drop 22 = dktX2_low_1 := dk_seg dksX2_low_0 22 rfl rfl
theorem dksX2_low_2 : cX2_low.data.toList.drop 44 = dktX2_low_2 := dk_seg dksX2_low_1 22 rfl rfl
theorem dX2_low_0 : decode cX2_low 0 = .ok (.new 175, 3) := dk_187 0 175 (dk_at dksX2_low_0 0 rfl rfl)
theorem dX2_low_3 : decode cX2_low 3 = .ok (.dup, 1) := dk_89 (dk_at dksX2_low_0 3 rfl rfl)
theorem dX2_low_4 : decode cX2_low 4 = .ok (.invokespecial 177, 3) := dk_183 0 177 (dk_at dksX2_low_0 4 rfl rfl)
theorem dX2_low_7 : decode cX2_low 7 = .ok (.astore_n 1, 1) := dk_76 (dk_at dksX2_low_0 7 rfl rfl)
theorem dX2_low_8 : decode cX2_low 8 = .ok (.aload_n 0, 1) := dk_42 (dk_at dksX2_low_0 8 rfl rfl)
theorem dX2_low_9 : decode cX2_low 9 = .ok (.getfield 14, 3) := dk_180 0 14 (dk_at dksX2_low_0 9 rfl rfl)
theorem dX2_low_12 : decode cX2_low 12 = .ok (.invokevirtual 110, 3) := dk_182 0 110 (dk_at dksX2_low_0 12 rfl rfl)
theorem dX2_low_15 : decode cX2_low 15 = .ok (.astore_n 2, 1) := dk_77 (dk_at dksX2_low_0 15 rfl rfl)
theorem dX2_low_16 : decode cX2_low 16 = .ok (.aload_n 2, 1) := dk_44 (dk_at dksX2_low_0 16 rfl rfl)
theorem dX2_low_17 : decode cX2_low 17 = .ok (.invokeinterface 114 1, 5) := by decide +kernel
theorem dX2_low_22 : decode cX2_low 22 = .ok (.ifCond .eq 38, 3) := dk_153 0 38 (dk_at dksX2_low_1 0 rfl rfl)
theorem dX2_low_25 : decode cX2_low 25 = .ok (.aload_n 2, 1) := dk_44 (dk_at dksX2_low_1 3 rfl rfl)
theorem dX2_low_26 : decode cX2_low 26 = .ok (.invokeinterface 120 1, 5) := by decide +kernel
theorem dX2_low_31 : decode cX2_low 31 = .ok (.checkcast 72, 3) := dk_192 0 72 (dk_at dksX2_low_1 9 rfl rfl)
theorem dX2_low_34 : decode cX2_low 34 = .ok (.astore_n 3, 1) := dk_78 (dk_at dksX2_low_1 12 rfl rfl)
theorem dX2_low_35 : decode cX2_low 35 = .ok (.aload_n 3, 1) := dk_45 (dk_at dksX2_low_1 13 rfl rfl)
theorem dX2_low_36 : decode cX2_low 36 = .ok (.getfield 181, 3) := dk_180 0 181 (dk_at dksX2_low_1 14 rfl rfl)
theorem dX2_low_39 : decode cX2_low 39 = .ok (.ifCond .ne 15, 3) := dk_154 0 15 (dk_at dksX2_low_1 17 rfl rfl)
theorem dX2_low_42 : decode cX2_low 42 = .ok (.aload_n 1, 1) := dk_43 (dk_at dksX2_low_1 20 rfl rfl)
theorem dX2_low_43 : decode cX2_low 43 = .ok (.aload_n 3, 1) := dk_45 (dk_at dksX2_low_1 21 rfl rfl)
theorem dX2_low_44 : decode cX2_low 44 = .ok (.invokevirtual 178, 3) := dk_182 0 178 (dk_at dksX2_low_2 0 rfl rfl)
theorem dX2_low_47 : decode cX2_low 47 = .ok (.ifCond .eq 7, 3) := dk_153 0 7 (dk_at dksX2_low_2 3 rfl rfl)
theorem dX2_low_50 : decode cX2_low 50 = .ok (.iconst 1, 1) := dk_4 (dk_at dksX2_low_2 6 rfl rfl)
theorem dX2_low_51 : decode cX2_low 51 = .ok (.goto 4, 3) := dk_167 0 4 (dk_at dksX2_low_2 7 rfl rfl)
theorem dX2_low_54 : decode cX2_low 54 = .ok (.iconst 0, 1) := dk_3 (dk_at dksX2_low_2 10 rfl rfl)
theorem dX2_low_55 : decode cX2_low 55 = .ok (.istore 4, 2) := dk_54 4 (dk_at dksX2_low_2 11 rfl rfl)
theorem dX2_low_57 : decode cX2_low 57 = .ok (.goto (-41), 3) := dk_167 255 215 (dk_at dksX2_low_2 13 rfl rfl)
theorem dX2_low_60 : decode cX2_low 60 = .ok (.aload_n 1, 1) := dk_43 (dk_at dksX2_low_2 16 rfl rfl)
theorem dX2_low_61 : decode cX2_low 61 = .ok (.areturn, 1) := dk_176 (dk_at dksX2_low_2 17 rfl rfl)
abbrev cX2_bestAgain : ByteArray := prog_18_method_17_code
def yX2_bestAgain : MethodName := ⟨RX2, "bestAgain", "(LCurtainRiggers$Curtain;)LCurtainRiggers$Bar;"⟩
def dkwX2_bestAgain_4 : List UInt8 := [182, 0, 211, 153, 0, 7, 1, 167, 0, 11, 45, 3, 182, 0, 201, 192, 0, 72, 176]
abbrev dktX2_bestAgain_4 : List UInt8 := dkwX2_bestAgain_4 ++ []
def dkwX2_bestAgain_3 : List UInt8 := [182, 0, 204, 153, 0, 9, 132, 6, 1, 167, 255, 226, 45, 21, 6, 25, 5, 182, 0, 208, 167, 255, 190, 45]
abbrev dktX2_bestAgain_3 : List UInt8 := dkwX2_bestAgain_3 ++ dktX2_bestAgain_4
def dkwX2_bestAgain_2 : List UInt8 := [3, 54, 6, 21, 6, 45, 182, 0, 200, 162, 0, 27, 44, 45, 21, 6, 182, 0, 201, 192, 0, 72, 25, 5]
abbrev dktX2_bestAgain_2 : List UInt8 := dkwX2_bestAgain_2 ++ dktX2_bestAgain_3
def dkwX2_bestAgain_1 : List UInt8 := [58, 4, 25, 4, 185, 0, 114, 1, 0, 153, 0, 62, 25, 4, 185, 0, 120, 1, 0, 192, 0, 72, 58, 5]
abbrev dktX2_bestAgain_1 : List UInt8 := dkwX2_bestAgain_1 ++ dktX2_bestAgain_2
def dkwX2_bestAgain_0 : List UInt8 := [187, 0, 188, 89, 43, 183, 0, 190, 77, 187, 0, 175, 89, 183, 0, 177, 78, 42, 182, 0, 184, 182, 0, 199]
abbrev dktX2_bestAgain_0 : List UInt8 := dkwX2_bestAgain_0 ++ dktX2_bestAgain_1
theorem dksX2_bestAgain_0 : cX2_bestAgain.data.toList.drop 0 = dktX2_bestAgain_0 := by decide +kernel
theorem dksX2_bestAgain_1 : cX2_bestAgain.data.toList.drop 24 = dktX2_bestAgain_1 := dk_seg dksX2_bestAgain_0 24 rfl rfl
theorem dksX2_bestAgain_2 : cX2_bestAgain.data.toList.drop 48 = dktX2_bestAgain_2 := dk_seg dksX2_bestAgain_1 24 rfl rfl
theorem dksX2_bestAgain_3 : cX2_bestAgain.data.toList.drop 72 = dktX2_bestAgain_3 := dk_seg dksX2_bestAgain_2 24 rfl rfl
theorem dksX2_bestAgain_4 : cX2_bestAgain.data.toList.drop 96 = dktX2_bestAgain_4 := dk_seg dksX2_bestAgain_3 24 rfl rfl
theorem dX2_bestAgain_0 : decode cX2_bestAgain 0 = .ok (.new 188, 3) := dk_187 0 188 (dk_at dksX2_bestAgain_0 0 rfl rfl)
theorem dX2_bestAgain_3 : decode cX2_bestAgain 3 = .ok (.dup, 1) := dk_89 (dk_at dksX2_bestAgain_0 3 rfl rfl)
theorem dX2_bestAgain_4 : decode cX2_bestAgain 4 = .ok (.aload_n 1, 1) := dk_43 (dk_at dksX2_bestAgain_0 4 rfl rfl)
theorem dX2_bestAgain_5 : decode cX2_bestAgain 5 = .ok (.invokespecial 190, 3) := dk_183 0 190 (dk_at dksX2_bestAgain_0 5 rfl rfl)
theorem dX2_bestAgain_8 : decode cX2_bestAgain 8 = .ok (.astore_n 2, 1) := dk_77 (dk_at dksX2_bestAgain_0 8 rfl rfl)
theorem dX2_bestAgain_9 : decode cX2_bestAgain 9 = .ok (.new 175, 3) := dk_187 0 175 (dk_at dksX2_bestAgain_0 9 rfl rfl)
theorem dX2_bestAgain_12 : decode cX2_bestAgain 12 = .ok (.dup, 1) := dk_89 (dk_at dksX2_bestAgain_0 12 rfl rfl)
theorem dX2_bestAgain_13 : decode cX2_bestAgain 13 = .ok (.invokespecial 177, 3) := dk_183 0 177 (dk_at dksX2_bestAgain_0 13 rfl rfl)
theorem dX2_bestAgain_16 : decode cX2_bestAgain 16 = .ok (.astore_n 3, 1) := dk_78 (dk_at dksX2_bestAgain_0 16 rfl rfl)
theorem dX2_bestAgain_17 : decode cX2_bestAgain 17 = .ok (.aload_n 0, 1) := dk_42 (dk_at dksX2_bestAgain_0 17 rfl rfl)
theorem dX2_bestAgain_18 : decode cX2_bestAgain 18 = .ok (.invokevirtual 184, 3) := dk_182 0 184 (dk_at dksX2_bestAgain_0 18 rfl rfl)
theorem dX2_bestAgain_21 : decode cX2_bestAgain 21 = .ok (.invokevirtual 199, 3) := dk_182 0 199 (dk_at dksX2_bestAgain_0 21 rfl rfl)
theorem dX2_bestAgain_24 : decode cX2_bestAgain 24 = .ok (.astore 4, 2) := dk_58 4 (dk_at dksX2_bestAgain_1 0 rfl rfl)
theorem dX2_bestAgain_26 : decode cX2_bestAgain 26 = .ok (.aload 4, 2) := dk_25 4 (dk_at dksX2_bestAgain_1 2 rfl rfl)
theorem dX2_bestAgain_28 : decode cX2_bestAgain 28 = .ok (.invokeinterface 114 1, 5) := by decide +kernel
theorem dX2_bestAgain_33 : decode cX2_bestAgain 33 = .ok (.ifCond .eq 62, 3) := dk_153 0 62 (dk_at dksX2_bestAgain_1 9 rfl rfl)
theorem dX2_bestAgain_36 : decode cX2_bestAgain 36 = .ok (.aload 4, 2) := dk_25 4 (dk_at dksX2_bestAgain_1 12 rfl rfl)
theorem dX2_bestAgain_38 : decode cX2_bestAgain 38 = .ok (.invokeinterface 120 1, 5) := by decide +kernel
theorem dX2_bestAgain_43 : decode cX2_bestAgain 43 = .ok (.checkcast 72, 3) := dk_192 0 72 (dk_at dksX2_bestAgain_1 19 rfl rfl)
theorem dX2_bestAgain_46 : decode cX2_bestAgain 46 = .ok (.astore 5, 2) := dk_58 5 (dk_at dksX2_bestAgain_1 22 rfl rfl)
theorem dX2_bestAgain_48 : decode cX2_bestAgain 48 = .ok (.iconst 0, 1) := dk_3 (dk_at dksX2_bestAgain_2 0 rfl rfl)
theorem dX2_bestAgain_49 : decode cX2_bestAgain 49 = .ok (.istore 6, 2) := dk_54 6 (dk_at dksX2_bestAgain_2 1 rfl rfl)
theorem dX2_bestAgain_51 : decode cX2_bestAgain 51 = .ok (.iload 6, 2) := dk_21 6 (dk_at dksX2_bestAgain_2 3 rfl rfl)
theorem dX2_bestAgain_53 : decode cX2_bestAgain 53 = .ok (.aload_n 3, 1) := dk_45 (dk_at dksX2_bestAgain_2 5 rfl rfl)
theorem dX2_bestAgain_54 : decode cX2_bestAgain 54 = .ok (.invokevirtual 200, 3) := dk_182 0 200 (dk_at dksX2_bestAgain_2 6 rfl rfl)
theorem dX2_bestAgain_57 : decode cX2_bestAgain 57 = .ok (.if_icmp .ge 27, 3) := dk_162 0 27 (dk_at dksX2_bestAgain_2 9 rfl rfl)
theorem dX2_bestAgain_60 : decode cX2_bestAgain 60 = .ok (.aload_n 2, 1) := dk_44 (dk_at dksX2_bestAgain_2 12 rfl rfl)
theorem dX2_bestAgain_61 : decode cX2_bestAgain 61 = .ok (.aload_n 3, 1) := dk_45 (dk_at dksX2_bestAgain_2 13 rfl rfl)
theorem dX2_bestAgain_62 : decode cX2_bestAgain 62 = .ok (.iload 6, 2) := dk_21 6 (dk_at dksX2_bestAgain_2 14 rfl rfl)
theorem dX2_bestAgain_64 : decode cX2_bestAgain 64 = .ok (.invokevirtual 201, 3) := dk_182 0 201 (dk_at dksX2_bestAgain_2 16 rfl rfl)
theorem dX2_bestAgain_67 : decode cX2_bestAgain 67 = .ok (.checkcast 72, 3) := dk_192 0 72 (dk_at dksX2_bestAgain_2 19 rfl rfl)
theorem dX2_bestAgain_70 : decode cX2_bestAgain 70 = .ok (.aload 5, 2) := dk_25 5 (dk_at dksX2_bestAgain_2 22 rfl rfl)
theorem dX2_bestAgain_72 : decode cX2_bestAgain 72 = .ok (.invokevirtual 204, 3) := dk_182 0 204 (dk_at dksX2_bestAgain_3 0 rfl rfl)
theorem dX2_bestAgain_75 : decode cX2_bestAgain 75 = .ok (.ifCond .eq 9, 3) := dk_153 0 9 (dk_at dksX2_bestAgain_3 3 rfl rfl)
theorem dX2_bestAgain_78 : decode cX2_bestAgain 78 = .ok (.iinc 6 1, 3) := dk_132 6 1 (dk_at dksX2_bestAgain_3 6 rfl rfl)
theorem dX2_bestAgain_81 : decode cX2_bestAgain 81 = .ok (.goto (-30), 3) := dk_167 255 226 (dk_at dksX2_bestAgain_3 9 rfl rfl)
theorem dX2_bestAgain_84 : decode cX2_bestAgain 84 = .ok (.aload_n 3, 1) := dk_45 (dk_at dksX2_bestAgain_3 12 rfl rfl)
theorem dX2_bestAgain_85 : decode cX2_bestAgain 85 = .ok (.iload 6, 2) := dk_21 6 (dk_at dksX2_bestAgain_3 13 rfl rfl)
theorem dX2_bestAgain_87 : decode cX2_bestAgain 87 = .ok (.aload 5, 2) := dk_25 5 (dk_at dksX2_bestAgain_3 15 rfl rfl)
theorem dX2_bestAgain_89 : decode cX2_bestAgain 89 = .ok (.invokevirtual 208, 3) := dk_182 0 208 (dk_at dksX2_bestAgain_3 17 rfl rfl)
theorem dX2_bestAgain_92 : decode cX2_bestAgain 92 = .ok (.goto (-66), 3) := dk_167 255 190 (dk_at dksX2_bestAgain_3 20 rfl rfl)
theorem dX2_bestAgain_95 : decode cX2_bestAgain 95 = .ok (.aload_n 3, 1) := dk_45 (dk_at dksX2_bestAgain_3 23 rfl rfl)
theorem dX2_bestAgain_96 : decode cX2_bestAgain 96 = .ok (.invokevirtual 211, 3) := dk_182 0 211 (dk_at dksX2_bestAgain_4 0 rfl rfl)
theorem dX2_bestAgain_99 : decode cX2_bestAgain 99 = .ok (.ifCond .eq 7, 3) := dk_153 0 7 (dk_at dksX2_bestAgain_4 3 rfl rfl)
theorem dX2_bestAgain_102 : decode cX2_bestAgain 102 = .ok (.aconst_null, 1) := dk_1 (dk_at dksX2_bestAgain_4 6 rfl rfl)
theorem dX2_bestAgain_103 : decode cX2_bestAgain 103 = .ok (.goto 11, 3) := dk_167 0 11 (dk_at dksX2_bestAgain_4 7 rfl rfl)
theorem dX2_bestAgain_106 : decode cX2_bestAgain 106 = .ok (.aload_n 3, 1) := dk_45 (dk_at dksX2_bestAgain_4 10 rfl rfl)
theorem dX2_bestAgain_107 : decode cX2_bestAgain 107 = .ok (.iconst 0, 1) := dk_3 (dk_at dksX2_bestAgain_4 11 rfl rfl)
theorem dX2_bestAgain_108 : decode cX2_bestAgain 108 = .ok (.invokevirtual 201, 3) := dk_182 0 201 (dk_at dksX2_bestAgain_4 12 rfl rfl)
theorem dX2_bestAgain_111 : decode cX2_bestAgain 111 = .ok (.checkcast 72, 3) := dk_192 0 72 (dk_at dksX2_bestAgain_4 15 rfl rfl)
theorem dX2_bestAgain_114 : decode cX2_bestAgain 114 = .ok (.areturn, 1) := dk_176 (dk_at dksX2_bestAgain_4 18 rfl rfl)
abbrev cX2_noiseAgain : ByteArray := prog_18_method_24_code
def yX2_noiseAgain : MethodName := ⟨RX2, "noiseAgain", "(LCurtainRiggers$Bar;I)I"⟩
def dkwX2_noiseAgain_5 : List UInt8 := [51, 54, 9, 29, 21, 9, 153, 0, 7, 5, 167, 0, 4, 3, 96, 62, 132, 8, 1, 167, 255, 226, 29, 172]
abbrev dktX2_noiseAgain_5 : List UInt8 := dkwX2_noiseAgain_5 ++ []
def dkwX2_noiseAgain_4 : List UInt8 := [180, 0, 29, 58, 6, 25, 6, 190, 54, 7, 3, 54, 8, 21, 8, 21, 7, 162, 0, 29, 25, 6, 21, 8]
abbrev dktX2_noiseAgain_4 : List UInt8 := dkwX2_noiseAgain_4 ++ dktX2_noiseAgain_5
def dkwX2_noiseAgain_3 : List UInt8 := [29, 21, 6, 6, 112, 154, 0, 7, 4, 167, 0, 4, 3, 96, 62, 132, 6, 1, 167, 255, 229, 42]
abbrev dktX2_noiseAgain_3 : List UInt8 := dkwX2_noiseAgain_3 ++ dktX2_noiseAgain_4
def dkwX2_noiseAgain_2 : List UInt8 := [96, 62, 21, 6, 21, 5, 96, 54, 6, 167, 255, 225, 4, 54, 6, 21, 6, 43, 180, 0, 101, 163, 0, 24]
abbrev dktX2_noiseAgain_2 : List UInt8 := dkwX2_noiseAgain_2 ++ dktX2_noiseAgain_3
def dkwX2_noiseAgain_1 : List UInt8 := [54, 6, 21, 6, 28, 159, 0, 31, 132, 4, 1, 29, 21, 4, 7, 112, 154, 0, 7, 4, 167, 0, 4, 3]
abbrev dktX2_noiseAgain_1 : List UInt8 := dkwX2_noiseAgain_1 ++ dktX2_noiseAgain_2
def dkwX2_noiseAgain_0 : List UInt8 := [3, 62, 3, 54, 4, 28, 43, 180, 0, 181, 164, 0, 7, 4, 167, 0, 4, 2, 54, 5, 43, 180, 0, 181]
abbrev dktX2_noiseAgain_0 : List UInt8 := dkwX2_noiseAgain_0 ++ dktX2_noiseAgain_1
theorem dksX2_noiseAgain_0 : cX2_noiseAgain.data.toList.drop 0 = dktX2_noiseAgain_0 := by decide +kernel
theorem dksX2_noiseAgain_1 : cX2_noiseAgain.data.toList.drop 24 = dktX2_noiseAgain_1 := dk_seg dksX2_noiseAgain_0 24 rfl rfl
theorem dksX2_noiseAgain_2 : cX2_noiseAgain.data.toList.drop 48 = dktX2_noiseAgain_2 := dk_seg dksX2_noiseAgain_1 24 rfl rfl
theorem dksX2_noiseAgain_3 : cX2_noiseAgain.data.toList.drop 72 = dktX2_noiseAgain_3 := dk_seg dksX2_noiseAgain_2 24 rfl rfl
theorem dksX2_noiseAgain_4 : cX2_noiseAgain.data.toList.drop 94 = dktX2_noiseAgain_4 := dk_seg dksX2_noiseAgain_3 22 rfl rfl
theorem dksX2_noiseAgain_5 : cX2_noiseAgain.data.toList.drop 118 = dktX2_noiseAgain_5 := dk_seg dksX2_noiseAgain_4 24 rfl rfl
theorem dX2_noiseAgain_0 : decode cX2_noiseAgain 0 = .ok (.iconst 0, 1) := dk_3 (dk_at dksX2_noiseAgain_0 0 rfl rfl)
theorem dX2_noiseAgain_1 : decode cX2_noiseAgain 1 = .ok (.istore_n 3, 1) := dk_62 (dk_at dksX2_noiseAgain_0 1 rfl rfl)
theorem dX2_noiseAgain_2 : decode cX2_noiseAgain 2 = .ok (.iconst 0, 1) := dk_3 (dk_at dksX2_noiseAgain_0 2 rfl rfl)
theorem dX2_noiseAgain_3 : decode cX2_noiseAgain 3 = .ok (.istore 4, 2) := dk_54 4 (dk_at dksX2_noiseAgain_0 3 rfl rfl)
theorem dX2_noiseAgain_5 : decode cX2_noiseAgain 5 = .ok (.iload_n 2, 1) := dk_28 (dk_at dksX2_noiseAgain_0 5 rfl rfl)
theorem dX2_noiseAgain_6 : decode cX2_noiseAgain 6 = .ok (.aload_n 1, 1) := dk_43 (dk_at dksX2_noiseAgain_0 6 rfl rfl)
theorem dX2_noiseAgain_7 : decode cX2_noiseAgain 7 = .ok (.getfield 181, 3) := dk_180 0 181 (dk_at dksX2_noiseAgain_0 7 rfl rfl)
theorem dX2_noiseAgain_10 : decode cX2_noiseAgain 10 = .ok (.if_icmp .le 7, 3) := dk_164 0 7 (dk_at dksX2_noiseAgain_0 10 rfl rfl)
theorem dX2_noiseAgain_13 : decode cX2_noiseAgain 13 = .ok (.iconst 1, 1) := dk_4 (dk_at dksX2_noiseAgain_0 13 rfl rfl)
theorem dX2_noiseAgain_14 : decode cX2_noiseAgain 14 = .ok (.goto 4, 3) := dk_167 0 4 (dk_at dksX2_noiseAgain_0 14 rfl rfl)
theorem dX2_noiseAgain_17 : decode cX2_noiseAgain 17 = .ok (.iconst (-1), 1) := dk_2 (dk_at dksX2_noiseAgain_0 17 rfl rfl)
theorem dX2_noiseAgain_18 : decode cX2_noiseAgain 18 = .ok (.istore 5, 2) := dk_54 5 (dk_at dksX2_noiseAgain_0 18 rfl rfl)
theorem dX2_noiseAgain_20 : decode cX2_noiseAgain 20 = .ok (.aload_n 1, 1) := dk_43 (dk_at dksX2_noiseAgain_0 20 rfl rfl)
theorem dX2_noiseAgain_21 : decode cX2_noiseAgain 21 = .ok (.getfield 181, 3) := dk_180 0 181 (dk_at dksX2_noiseAgain_0 21 rfl rfl)
theorem dX2_noiseAgain_24 : decode cX2_noiseAgain 24 = .ok (.istore 6, 2) := dk_54 6 (dk_at dksX2_noiseAgain_1 0 rfl rfl)
theorem dX2_noiseAgain_26 : decode cX2_noiseAgain 26 = .ok (.iload 6, 2) := dk_21 6 (dk_at dksX2_noiseAgain_1 2 rfl rfl)
theorem dX2_noiseAgain_28 : decode cX2_noiseAgain 28 = .ok (.iload_n 2, 1) := dk_28 (dk_at dksX2_noiseAgain_1 4 rfl rfl)
theorem dX2_noiseAgain_29 : decode cX2_noiseAgain 29 = .ok (.if_icmp .eq 31, 3) := dk_159 0 31 (dk_at dksX2_noiseAgain_1 5 rfl rfl)
theorem dX2_noiseAgain_32 : decode cX2_noiseAgain 32 = .ok (.iinc 4 1, 3) := dk_132 4 1 (dk_at dksX2_noiseAgain_1 8 rfl rfl)
theorem dX2_noiseAgain_35 : decode cX2_noiseAgain 35 = .ok (.iload_n 3, 1) := dk_29 (dk_at dksX2_noiseAgain_1 11 rfl rfl)
theorem dX2_noiseAgain_36 : decode cX2_noiseAgain 36 = .ok (.iload 4, 2) := dk_21 4 (dk_at dksX2_noiseAgain_1 12 rfl rfl)
theorem dX2_noiseAgain_38 : decode cX2_noiseAgain 38 = .ok (.iconst 4, 1) := dk_7 (dk_at dksX2_noiseAgain_1 14 rfl rfl)
theorem dX2_noiseAgain_39 : decode cX2_noiseAgain 39 = .ok (.irem, 1) := dk_112 (dk_at dksX2_noiseAgain_1 15 rfl rfl)
theorem dX2_noiseAgain_40 : decode cX2_noiseAgain 40 = .ok (.ifCond .ne 7, 3) := dk_154 0 7 (dk_at dksX2_noiseAgain_1 16 rfl rfl)
theorem dX2_noiseAgain_43 : decode cX2_noiseAgain 43 = .ok (.iconst 1, 1) := dk_4 (dk_at dksX2_noiseAgain_1 19 rfl rfl)
theorem dX2_noiseAgain_44 : decode cX2_noiseAgain 44 = .ok (.goto 4, 3) := dk_167 0 4 (dk_at dksX2_noiseAgain_1 20 rfl rfl)
theorem dX2_noiseAgain_47 : decode cX2_noiseAgain 47 = .ok (.iconst 0, 1) := dk_3 (dk_at dksX2_noiseAgain_1 23 rfl rfl)
theorem dX2_noiseAgain_48 : decode cX2_noiseAgain 48 = .ok (.iadd, 1) := dk_96 (dk_at dksX2_noiseAgain_2 0 rfl rfl)
theorem dX2_noiseAgain_49 : decode cX2_noiseAgain 49 = .ok (.istore_n 3, 1) := dk_62 (dk_at dksX2_noiseAgain_2 1 rfl rfl)
theorem dX2_noiseAgain_50 : decode cX2_noiseAgain 50 = .ok (.iload 6, 2) := dk_21 6 (dk_at dksX2_noiseAgain_2 2 rfl rfl)
theorem dX2_noiseAgain_52 : decode cX2_noiseAgain 52 = .ok (.iload 5, 2) := dk_21 5 (dk_at dksX2_noiseAgain_2 4 rfl rfl)
theorem dX2_noiseAgain_54 : decode cX2_noiseAgain 54 = .ok (.iadd, 1) := dk_96 (dk_at dksX2_noiseAgain_2 6 rfl rfl)
theorem dX2_noiseAgain_55 : decode cX2_noiseAgain 55 = .ok (.istore 6, 2) := dk_54 6 (dk_at dksX2_noiseAgain_2 7 rfl rfl)
theorem dX2_noiseAgain_57 : decode cX2_noiseAgain 57 = .ok (.goto (-31), 3) := dk_167 255 225 (dk_at dksX2_noiseAgain_2 9 rfl rfl)
theorem dX2_noiseAgain_60 : decode cX2_noiseAgain 60 = .ok (.iconst 1, 1) := dk_4 (dk_at dksX2_noiseAgain_2 12 rfl rfl)
theorem dX2_noiseAgain_61 : decode cX2_noiseAgain 61 = .ok (.istore 6, 2) := dk_54 6 (dk_at dksX2_noiseAgain_2 13 rfl rfl)
theorem dX2_noiseAgain_63 : decode cX2_noiseAgain 63 = .ok (.iload 6, 2) := dk_21 6 (dk_at dksX2_noiseAgain_2 15 rfl rfl)
theorem dX2_noiseAgain_65 : decode cX2_noiseAgain 65 = .ok (.aload_n 1, 1) := dk_43 (dk_at dksX2_noiseAgain_2 17 rfl rfl)
theorem dX2_noiseAgain_66 : decode cX2_noiseAgain 66 = .ok (.getfield 101, 3) := dk_180 0 101 (dk_at dksX2_noiseAgain_2 18 rfl rfl)
theorem dX2_noiseAgain_69 : decode cX2_noiseAgain 69 = .ok (.if_icmp .gt 24, 3) := dk_163 0 24 (dk_at dksX2_noiseAgain_2 21 rfl rfl)
theorem dX2_noiseAgain_72 : decode cX2_noiseAgain 72 = .ok (.iload_n 3, 1) := dk_29 (dk_at dksX2_noiseAgain_3 0 rfl rfl)
theorem dX2_noiseAgain_73 : decode cX2_noiseAgain 73 = .ok (.iload 6, 2) := dk_21 6 (dk_at dksX2_noiseAgain_3 1 rfl rfl)
theorem dX2_noiseAgain_75 : decode cX2_noiseAgain 75 = .ok (.iconst 3, 1) := dk_6 (dk_at dksX2_noiseAgain_3 3 rfl rfl)
theorem dX2_noiseAgain_76 : decode cX2_noiseAgain 76 = .ok (.irem, 1) := dk_112 (dk_at dksX2_noiseAgain_3 4 rfl rfl)
theorem dX2_noiseAgain_77 : decode cX2_noiseAgain 77 = .ok (.ifCond .ne 7, 3) := dk_154 0 7 (dk_at dksX2_noiseAgain_3 5 rfl rfl)
theorem dX2_noiseAgain_80 : decode cX2_noiseAgain 80 = .ok (.iconst 1, 1) := dk_4 (dk_at dksX2_noiseAgain_3 8 rfl rfl)
theorem dX2_noiseAgain_81 : decode cX2_noiseAgain 81 = .ok (.goto 4, 3) := dk_167 0 4 (dk_at dksX2_noiseAgain_3 9 rfl rfl)
theorem dX2_noiseAgain_84 : decode cX2_noiseAgain 84 = .ok (.iconst 0, 1) := dk_3 (dk_at dksX2_noiseAgain_3 12 rfl rfl)
theorem dX2_noiseAgain_85 : decode cX2_noiseAgain 85 = .ok (.iadd, 1) := dk_96 (dk_at dksX2_noiseAgain_3 13 rfl rfl)
theorem dX2_noiseAgain_86 : decode cX2_noiseAgain 86 = .ok (.istore_n 3, 1) := dk_62 (dk_at dksX2_noiseAgain_3 14 rfl rfl)
theorem dX2_noiseAgain_87 : decode cX2_noiseAgain 87 = .ok (.iinc 6 1, 3) := dk_132 6 1 (dk_at dksX2_noiseAgain_3 15 rfl rfl)
theorem dX2_noiseAgain_90 : decode cX2_noiseAgain 90 = .ok (.goto (-27), 3) := dk_167 255 229 (dk_at dksX2_noiseAgain_3 18 rfl rfl)
theorem dX2_noiseAgain_93 : decode cX2_noiseAgain 93 = .ok (.aload_n 0, 1) := dk_42 (dk_at dksX2_noiseAgain_3 21 rfl rfl)
theorem dX2_noiseAgain_94 : decode cX2_noiseAgain 94 = .ok (.getfield 29, 3) := dk_180 0 29 (dk_at dksX2_noiseAgain_4 0 rfl rfl)
theorem dX2_noiseAgain_97 : decode cX2_noiseAgain 97 = .ok (.astore 6, 2) := dk_58 6 (dk_at dksX2_noiseAgain_4 3 rfl rfl)
theorem dX2_noiseAgain_99 : decode cX2_noiseAgain 99 = .ok (.aload 6, 2) := dk_25 6 (dk_at dksX2_noiseAgain_4 5 rfl rfl)
theorem dX2_noiseAgain_101 : decode cX2_noiseAgain 101 = .ok (.arraylength, 1) := dk_190 (dk_at dksX2_noiseAgain_4 7 rfl rfl)
theorem dX2_noiseAgain_102 : decode cX2_noiseAgain 102 = .ok (.istore 7, 2) := dk_54 7 (dk_at dksX2_noiseAgain_4 8 rfl rfl)
theorem dX2_noiseAgain_104 : decode cX2_noiseAgain 104 = .ok (.iconst 0, 1) := dk_3 (dk_at dksX2_noiseAgain_4 10 rfl rfl)
theorem dX2_noiseAgain_105 : decode cX2_noiseAgain 105 = .ok (.istore 8, 2) := dk_54 8 (dk_at dksX2_noiseAgain_4 11 rfl rfl)
theorem dX2_noiseAgain_107 : decode cX2_noiseAgain 107 = .ok (.iload 8, 2) := dk_21 8 (dk_at dksX2_noiseAgain_4 13 rfl rfl)
theorem dX2_noiseAgain_109 : decode cX2_noiseAgain 109 = .ok (.iload 7, 2) := dk_21 7 (dk_at dksX2_noiseAgain_4 15 rfl rfl)
theorem dX2_noiseAgain_111 : decode cX2_noiseAgain 111 = .ok (.if_icmp .ge 29, 3) := dk_162 0 29 (dk_at dksX2_noiseAgain_4 17 rfl rfl)
theorem dX2_noiseAgain_114 : decode cX2_noiseAgain 114 = .ok (.aload 6, 2) := dk_25 6 (dk_at dksX2_noiseAgain_4 20 rfl rfl)
theorem dX2_noiseAgain_116 : decode cX2_noiseAgain 116 = .ok (.iload 8, 2) := dk_21 8 (dk_at dksX2_noiseAgain_4 22 rfl rfl)
theorem dX2_noiseAgain_118 : decode cX2_noiseAgain 118 = .ok (.baload, 1) := dk_51 (dk_at dksX2_noiseAgain_5 0 rfl rfl)
theorem dX2_noiseAgain_119 : decode cX2_noiseAgain 119 = .ok (.istore 9, 2) := dk_54 9 (dk_at dksX2_noiseAgain_5 1 rfl rfl)
theorem dX2_noiseAgain_121 : decode cX2_noiseAgain 121 = .ok (.iload_n 3, 1) := dk_29 (dk_at dksX2_noiseAgain_5 3 rfl rfl)
theorem dX2_noiseAgain_122 : decode cX2_noiseAgain 122 = .ok (.iload 9, 2) := dk_21 9 (dk_at dksX2_noiseAgain_5 4 rfl rfl)
theorem dX2_noiseAgain_124 : decode cX2_noiseAgain 124 = .ok (.ifCond .eq 7, 3) := dk_153 0 7 (dk_at dksX2_noiseAgain_5 6 rfl rfl)
theorem dX2_noiseAgain_127 : decode cX2_noiseAgain 127 = .ok (.iconst 2, 1) := dk_5 (dk_at dksX2_noiseAgain_5 9 rfl rfl)
theorem dX2_noiseAgain_128 : decode cX2_noiseAgain 128 = .ok (.goto 4, 3) := dk_167 0 4 (dk_at dksX2_noiseAgain_5 10 rfl rfl)
theorem dX2_noiseAgain_131 : decode cX2_noiseAgain 131 = .ok (.iconst 0, 1) := dk_3 (dk_at dksX2_noiseAgain_5 13 rfl rfl)
theorem dX2_noiseAgain_132 : decode cX2_noiseAgain 132 = .ok (.iadd, 1) := dk_96 (dk_at dksX2_noiseAgain_5 14 rfl rfl)
theorem dX2_noiseAgain_133 : decode cX2_noiseAgain 133 = .ok (.istore_n 3, 1) := dk_62 (dk_at dksX2_noiseAgain_5 15 rfl rfl)
theorem dX2_noiseAgain_134 : decode cX2_noiseAgain 134 = .ok (.iinc 8 1, 3) := dk_132 8 1 (dk_at dksX2_noiseAgain_5 16 rfl rfl)
theorem dX2_noiseAgain_137 : decode cX2_noiseAgain 137 = .ok (.goto (-30), 3) := dk_167 255 226 (dk_at dksX2_noiseAgain_5 19 rfl rfl)
theorem dX2_noiseAgain_140 : decode cX2_noiseAgain 140 = .ok (.iload_n 3, 1) := dk_29 (dk_at dksX2_noiseAgain_5 22 rfl rfl)
theorem dX2_noiseAgain_141 : decode cX2_noiseAgain 141 = .ok (.ireturn, 1) := dk_172 (dk_at dksX2_noiseAgain_5 23 rfl rfl)
abbrev cX2_wouldRefuse : ByteArray := prog_18_method_26_code
def yX2_wouldRefuse : MethodName := ⟨RX2, "wouldRefuse", "(LCurtainRiggers$Bar;)I"⟩
def dkwX2_wouldRefuse_0 : List UInt8 := [42, 43, 182, 1, 0, 3, 172, 77, 44, 180, 1, 4, 172]
abbrev dktX2_wouldRefuse_0 : List UInt8 := dkwX2_wouldRefuse_0 ++ []
theorem dksX2_wouldRefuse_0 : cX2_wouldRefuse.data.toList.drop 0 = dktX2_wouldRefuse_0 := by decide +kernel
theorem dX2_wouldRefuse_0 : decode cX2_wouldRefuse 0 = .ok (.aload_n 0, 1) := dk_42 (dk_at dksX2_wouldRefuse_0 0 rfl rfl)
theorem dX2_wouldRefuse_1 : decode cX2_wouldRefuse 1 = .ok (.aload_n 1, 1) := dk_43 (dk_at dksX2_wouldRefuse_0 1 rfl rfl)
theorem dX2_wouldRefuse_2 : decode cX2_wouldRefuse 2 = .ok (.invokevirtual 256, 3) := dk_182 1 0 (dk_at dksX2_wouldRefuse_0 2 rfl rfl)
theorem dX2_wouldRefuse_5 : decode cX2_wouldRefuse 5 = .ok (.iconst 0, 1) := dk_3 (dk_at dksX2_wouldRefuse_0 5 rfl rfl)
theorem dX2_wouldRefuse_6 : decode cX2_wouldRefuse 6 = .ok (.ireturn, 1) := dk_172 (dk_at dksX2_wouldRefuse_0 6 rfl rfl)
theorem dX2_wouldRefuse_7 : decode cX2_wouldRefuse 7 = .ok (.astore_n 2, 1) := dk_77 (dk_at dksX2_wouldRefuse_0 7 rfl rfl)
theorem dX2_wouldRefuse_8 : decode cX2_wouldRefuse 8 = .ok (.aload_n 2, 1) := dk_44 (dk_at dksX2_wouldRefuse_0 8 rfl rfl)
theorem dX2_wouldRefuse_9 : decode cX2_wouldRefuse 9 = .ok (.getfield 260, 3) := dk_180 1 4 (dk_at dksX2_wouldRefuse_0 9 rfl rfl)
theorem dX2_wouldRefuse_12 : decode cX2_wouldRefuse 12 = .ok (.ireturn, 1) := dk_172 (dk_at dksX2_wouldRefuse_0 12 rfl rfl)
abbrev cX2_addCue : ByteArray := prog_18_method_30_code
def yX2_addCue : MethodName := ⟨RX2, "addCue", "(LCurtainRiggers$Cue;)I"⟩
def dkwX2_addCue_3 : List UInt8 := [182, 0, 141, 4, 96, 172]
abbrev dktX2_addCue_3 : List UInt8 := dkwX2_addCue_3 ++ []
def dkwX2_addCue_2 : List UInt8 := [199, 0, 7, 4, 167, 0, 4, 3, 184, 0, 93, 43, 180, 1, 35, 184, 1, 14, 42, 180, 0, 26, 43]
abbrev dktX2_addCue_2 : List UInt8 := dkwX2_addCue_2 ++ dktX2_addCue_3
def dkwX2_addCue_1 : List UInt8 := [43, 180, 1, 28, 133, 9, 20, 0, 108, 184, 0, 89, 153, 0, 18, 42, 43, 180, 1, 22, 182, 1, 31]
abbrev dktX2_addCue_1 : List UInt8 := dkwX2_addCue_1 ++ dktX2_addCue_2
def dkwX2_addCue_0 : List UInt8 := [42, 43, 180, 1, 25, 182, 0, 97, 77, 43, 180, 1, 22, 133, 9, 20, 1, 26, 184, 0, 89, 153, 0, 33]
abbrev dktX2_addCue_0 : List UInt8 := dkwX2_addCue_0 ++ dktX2_addCue_1
theorem dksX2_addCue_0 : cX2_addCue.data.toList.drop 0 = dktX2_addCue_0 := by decide +kernel
theorem dksX2_addCue_1 : cX2_addCue.data.toList.drop 24 = dktX2_addCue_1 := dk_seg dksX2_addCue_0 24 rfl rfl
theorem dksX2_addCue_2 : cX2_addCue.data.toList.drop 47 = dktX2_addCue_2 := dk_seg dksX2_addCue_1 23 rfl rfl
theorem dksX2_addCue_3 : cX2_addCue.data.toList.drop 70 = dktX2_addCue_3 := dk_seg dksX2_addCue_2 23 rfl rfl
theorem dX2_addCue_0 : decode cX2_addCue 0 = .ok (.aload_n 0, 1) := dk_42 (dk_at dksX2_addCue_0 0 rfl rfl)
theorem dX2_addCue_1 : decode cX2_addCue 1 = .ok (.aload_n 1, 1) := dk_43 (dk_at dksX2_addCue_0 1 rfl rfl)
theorem dX2_addCue_2 : decode cX2_addCue 2 = .ok (.getfield 281, 3) := dk_180 1 25 (dk_at dksX2_addCue_0 2 rfl rfl)
theorem dX2_addCue_5 : decode cX2_addCue 5 = .ok (.invokevirtual 97, 3) := dk_182 0 97 (dk_at dksX2_addCue_0 5 rfl rfl)
theorem dX2_addCue_8 : decode cX2_addCue 8 = .ok (.astore_n 2, 1) := dk_77 (dk_at dksX2_addCue_0 8 rfl rfl)
theorem dX2_addCue_9 : decode cX2_addCue 9 = .ok (.aload_n 1, 1) := dk_43 (dk_at dksX2_addCue_0 9 rfl rfl)
theorem dX2_addCue_10 : decode cX2_addCue 10 = .ok (.getfield 278, 3) := dk_180 1 22 (dk_at dksX2_addCue_0 10 rfl rfl)
theorem dX2_addCue_13 : decode cX2_addCue 13 = .ok (.i2l, 1) := dk_133 (dk_at dksX2_addCue_0 13 rfl rfl)
theorem dX2_addCue_14 : decode cX2_addCue 14 = .ok (.lconst 0, 1) := dk_9 (dk_at dksX2_addCue_0 14 rfl rfl)
theorem dX2_addCue_15 : decode cX2_addCue 15 = .ok (.ldc2_w 282, 3) := dk_20 1 26 (dk_at dksX2_addCue_0 15 rfl rfl)
theorem dX2_addCue_18 : decode cX2_addCue 18 = .ok (.invokestatic 89, 3) := dk_184 0 89 (dk_at dksX2_addCue_0 18 rfl rfl)
theorem dX2_addCue_21 : decode cX2_addCue 21 = .ok (.ifCond .eq 33, 3) := dk_153 0 33 (dk_at dksX2_addCue_0 21 rfl rfl)
theorem dX2_addCue_24 : decode cX2_addCue 24 = .ok (.aload_n 1, 1) := dk_43 (dk_at dksX2_addCue_1 0 rfl rfl)
theorem dX2_addCue_25 : decode cX2_addCue 25 = .ok (.getfield 284, 3) := dk_180 1 28 (dk_at dksX2_addCue_1 1 rfl rfl)
theorem dX2_addCue_28 : decode cX2_addCue 28 = .ok (.i2l, 1) := dk_133 (dk_at dksX2_addCue_1 4 rfl rfl)
theorem dX2_addCue_29 : decode cX2_addCue 29 = .ok (.lconst 0, 1) := dk_9 (dk_at dksX2_addCue_1 5 rfl rfl)
theorem dX2_addCue_30 : decode cX2_addCue 30 = .ok (.ldc2_w 108, 3) := dk_20 0 108 (dk_at dksX2_addCue_1 6 rfl rfl)
theorem dX2_addCue_33 : decode cX2_addCue 33 = .ok (.invokestatic 89, 3) := dk_184 0 89 (dk_at dksX2_addCue_1 9 rfl rfl)
theorem dX2_addCue_36 : decode cX2_addCue 36 = .ok (.ifCond .eq 18, 3) := dk_153 0 18 (dk_at dksX2_addCue_1 12 rfl rfl)
theorem dX2_addCue_39 : decode cX2_addCue 39 = .ok (.aload_n 0, 1) := dk_42 (dk_at dksX2_addCue_1 15 rfl rfl)
theorem dX2_addCue_40 : decode cX2_addCue 40 = .ok (.aload_n 1, 1) := dk_43 (dk_at dksX2_addCue_1 16 rfl rfl)
theorem dX2_addCue_41 : decode cX2_addCue 41 = .ok (.getfield 278, 3) := dk_180 1 22 (dk_at dksX2_addCue_1 17 rfl rfl)
theorem dX2_addCue_44 : decode cX2_addCue 44 = .ok (.invokevirtual 287, 3) := dk_182 1 31 (dk_at dksX2_addCue_1 20 rfl rfl)
theorem dX2_addCue_47 : decode cX2_addCue 47 = .ok (.ifnonnull 7, 3) := dk_199 0 7 (dk_at dksX2_addCue_2 0 rfl rfl)
theorem dX2_addCue_50 : decode cX2_addCue 50 = .ok (.iconst 1, 1) := dk_4 (dk_at dksX2_addCue_2 3 rfl rfl)
theorem dX2_addCue_51 : decode cX2_addCue 51 = .ok (.goto 4, 3) := dk_167 0 4 (dk_at dksX2_addCue_2 4 rfl rfl)
theorem dX2_addCue_54 : decode cX2_addCue 54 = .ok (.iconst 0, 1) := dk_3 (dk_at dksX2_addCue_2 7 rfl rfl)
theorem dX2_addCue_55 : decode cX2_addCue 55 = .ok (.invokestatic 93, 3) := dk_184 0 93 (dk_at dksX2_addCue_2 8 rfl rfl)
theorem dX2_addCue_58 : decode cX2_addCue 58 = .ok (.aload_n 1, 1) := dk_43 (dk_at dksX2_addCue_2 11 rfl rfl)
theorem dX2_addCue_59 : decode cX2_addCue 59 = .ok (.getfield 291, 3) := dk_180 1 35 (dk_at dksX2_addCue_2 12 rfl rfl)
theorem dX2_addCue_62 : decode cX2_addCue 62 = .ok (.invokestatic 270, 3) := dk_184 1 14 (dk_at dksX2_addCue_2 15 rfl rfl)
theorem dX2_addCue_65 : decode cX2_addCue 65 = .ok (.aload_n 0, 1) := dk_42 (dk_at dksX2_addCue_2 18 rfl rfl)
theorem dX2_addCue_66 : decode cX2_addCue 66 = .ok (.getfield 26, 3) := dk_180 0 26 (dk_at dksX2_addCue_2 19 rfl rfl)
theorem dX2_addCue_69 : decode cX2_addCue 69 = .ok (.aload_n 1, 1) := dk_43 (dk_at dksX2_addCue_2 22 rfl rfl)
theorem dX2_addCue_70 : decode cX2_addCue 70 = .ok (.invokevirtual 141, 3) := dk_182 0 141 (dk_at dksX2_addCue_3 0 rfl rfl)
theorem dX2_addCue_73 : decode cX2_addCue 73 = .ok (.iconst 1, 1) := dk_4 (dk_at dksX2_addCue_3 3 rfl rfl)
theorem dX2_addCue_74 : decode cX2_addCue 74 = .ok (.iadd, 1) := dk_96 (dk_at dksX2_addCue_3 4 rfl rfl)
theorem dX2_addCue_75 : decode cX2_addCue 75 = .ok (.ireturn, 1) := dk_172 (dk_at dksX2_addCue_3 5 rfl rfl)
abbrev cX2_cueWith : ByteArray := prog_18_method_29_code
def yX2_cueWith : MethodName := ⟨RX2, "cueWith", "(I)LCurtainRiggers$Cue;"⟩
def dkwX2_cueWith_2 : List UInt8 := [44, 77, 167, 255, 220, 44, 176]
abbrev dktX2_cueWith_2 : List UInt8 := dkwX2_cueWith_2 ++ []
def dkwX2_cueWith_1 : List UInt8 := [185, 0, 120, 1, 0, 192, 1, 20, 58, 4, 25, 4, 180, 1, 22, 27, 160, 0, 8, 25, 4, 167, 0, 4]
abbrev dktX2_cueWith_1 : List UInt8 := dkwX2_cueWith_1 ++ dktX2_cueWith_2
def dkwX2_cueWith_0 : List UInt8 := [1, 77, 42, 180, 0, 26, 182, 0, 110, 78, 45, 185, 0, 114, 1, 0, 153, 0, 33, 45]
abbrev dktX2_cueWith_0 : List UInt8 := dkwX2_cueWith_0 ++ dktX2_cueWith_1
theorem dksX2_cueWith_0 : cX2_cueWith.data.toList.drop 0 = dktX2_cueWith_0 := by decide +kernel
theorem dksX2_cueWith_1 : cX2_cueWith.data.toList.drop 20 = dktX2_cueWith_1 := dk_seg dksX2_cueWith_0 20 rfl rfl
theorem dksX2_cueWith_2 : cX2_cueWith.data.toList.drop 44 = dktX2_cueWith_2 := dk_seg dksX2_cueWith_1 24 rfl rfl
theorem dX2_cueWith_0 : decode cX2_cueWith 0 = .ok (.aconst_null, 1) := dk_1 (dk_at dksX2_cueWith_0 0 rfl rfl)
theorem dX2_cueWith_1 : decode cX2_cueWith 1 = .ok (.astore_n 2, 1) := dk_77 (dk_at dksX2_cueWith_0 1 rfl rfl)
theorem dX2_cueWith_2 : decode cX2_cueWith 2 = .ok (.aload_n 0, 1) := dk_42 (dk_at dksX2_cueWith_0 2 rfl rfl)
theorem dX2_cueWith_3 : decode cX2_cueWith 3 = .ok (.getfield 26, 3) := dk_180 0 26 (dk_at dksX2_cueWith_0 3 rfl rfl)
theorem dX2_cueWith_6 : decode cX2_cueWith 6 = .ok (.invokevirtual 110, 3) := dk_182 0 110 (dk_at dksX2_cueWith_0 6 rfl rfl)
theorem dX2_cueWith_9 : decode cX2_cueWith 9 = .ok (.astore_n 3, 1) := dk_78 (dk_at dksX2_cueWith_0 9 rfl rfl)
theorem dX2_cueWith_10 : decode cX2_cueWith 10 = .ok (.aload_n 3, 1) := dk_45 (dk_at dksX2_cueWith_0 10 rfl rfl)
theorem dX2_cueWith_11 : decode cX2_cueWith 11 = .ok (.invokeinterface 114 1, 5) := by decide +kernel
theorem dX2_cueWith_16 : decode cX2_cueWith 16 = .ok (.ifCond .eq 33, 3) := dk_153 0 33 (dk_at dksX2_cueWith_0 16 rfl rfl)
theorem dX2_cueWith_19 : decode cX2_cueWith 19 = .ok (.aload_n 3, 1) := dk_45 (dk_at dksX2_cueWith_0 19 rfl rfl)
theorem dX2_cueWith_20 : decode cX2_cueWith 20 = .ok (.invokeinterface 120 1, 5) := by decide +kernel
theorem dX2_cueWith_25 : decode cX2_cueWith 25 = .ok (.checkcast 276, 3) := dk_192 1 20 (dk_at dksX2_cueWith_1 5 rfl rfl)
theorem dX2_cueWith_28 : decode cX2_cueWith 28 = .ok (.astore 4, 2) := dk_58 4 (dk_at dksX2_cueWith_1 8 rfl rfl)
theorem dX2_cueWith_30 : decode cX2_cueWith 30 = .ok (.aload 4, 2) := dk_25 4 (dk_at dksX2_cueWith_1 10 rfl rfl)
theorem dX2_cueWith_32 : decode cX2_cueWith 32 = .ok (.getfield 278, 3) := dk_180 1 22 (dk_at dksX2_cueWith_1 12 rfl rfl)
theorem dX2_cueWith_35 : decode cX2_cueWith 35 = .ok (.iload_n 1, 1) := dk_27 (dk_at dksX2_cueWith_1 15 rfl rfl)
theorem dX2_cueWith_36 : decode cX2_cueWith 36 = .ok (.if_icmp .ne 8, 3) := dk_160 0 8 (dk_at dksX2_cueWith_1 16 rfl rfl)
theorem dX2_cueWith_39 : decode cX2_cueWith 39 = .ok (.aload 4, 2) := dk_25 4 (dk_at dksX2_cueWith_1 19 rfl rfl)
theorem dX2_cueWith_41 : decode cX2_cueWith 41 = .ok (.goto 4, 3) := dk_167 0 4 (dk_at dksX2_cueWith_1 21 rfl rfl)
theorem dX2_cueWith_44 : decode cX2_cueWith 44 = .ok (.aload_n 2, 1) := dk_44 (dk_at dksX2_cueWith_2 0 rfl rfl)
theorem dX2_cueWith_45 : decode cX2_cueWith 45 = .ok (.astore_n 2, 1) := dk_77 (dk_at dksX2_cueWith_2 1 rfl rfl)
theorem dX2_cueWith_46 : decode cX2_cueWith 46 = .ok (.goto (-36), 3) := dk_167 255 220 (dk_at dksX2_cueWith_2 2 rfl rfl)
theorem dX2_cueWith_49 : decode cX2_cueWith 49 = .ok (.aload_n 2, 1) := dk_44 (dk_at dksX2_cueWith_2 5 rfl rfl)
theorem dX2_cueWith_50 : decode cX2_cueWith 50 = .ok (.areturn, 1) := dk_176 (dk_at dksX2_cueWith_2 6 rfl rfl)
abbrev cX2_told : ByteArray := prog_18_method_36_code
def yX2_told : MethodName := ⟨RX2, "told", "(LCurtainRiggers$Bar;)Ljava/lang/String;"⟩
def dkwX2_told_5 : List UInt8 := [19, 1, 87, 167, 0, 6, 19, 1, 89, 182, 1, 65, 182, 1, 91, 176]
abbrev dktX2_told_5 : List UInt8 := dkwX2_told_5 ++ []
def dkwX2_told_4 : List UInt8 := [182, 1, 65, 25, 5, 180, 1, 82, 182, 1, 59, 78, 167, 255, 218, 45, 42, 43, 182, 1, 83, 158, 0, 9]
abbrev dktX2_told_4 : List UInt8 := dkwX2_told_4 ++ dktX2_told_5
def dkwX2_told_3 : List UInt8 := [185, 0, 114, 1, 0, 153, 0, 34, 25, 4, 185, 0, 120, 1, 0, 192, 0, 74, 58, 5, 44, 19, 1, 80]
abbrev dktX2_told_3 : List UInt8 := dkwX2_told_3 ++ dktX2_told_4
def dkwX2_told_2 : List UInt8 := [182, 1, 65, 78, 42, 43, 180, 0, 165, 182, 1, 73, 185, 1, 77, 1, 0, 58, 4, 25, 4]
abbrev dktX2_told_2 : List UInt8 := dkwX2_told_2 ++ dktX2_told_3
def dkwX2_told_1 : List UInt8 := [180, 0, 158, 182, 1, 59, 16, 47, 182, 1, 68, 16, 10, 43, 180, 0, 172, 104, 182, 1, 59, 19, 1, 71]
abbrev dktX2_told_1 : List UInt8 := dkwX2_told_1 ++ dktX2_told_2
def dkwX2_told_0 : List UInt8 := [187, 1, 56, 89, 183, 1, 58, 77, 44, 43, 180, 0, 181, 182, 1, 59, 19, 1, 63, 182, 1, 65, 43]
abbrev dktX2_told_0 : List UInt8 := dkwX2_told_0 ++ dktX2_told_1
theorem dksX2_told_0 : cX2_told.data.toList.drop 0 = dktX2_told_0 := by decide +kernel
theorem dksX2_told_1 : cX2_told.data.toList.drop 23 = dktX2_told_1 := dk_seg dksX2_told_0 23 rfl rfl
theorem dksX2_told_2 : cX2_told.data.toList.drop 47 = dktX2_told_2 := dk_seg dksX2_told_1 24 rfl rfl
theorem dksX2_told_3 : cX2_told.data.toList.drop 68 = dktX2_told_3 := dk_seg dksX2_told_2 21 rfl rfl
theorem dksX2_told_4 : cX2_told.data.toList.drop 92 = dktX2_told_4 := dk_seg dksX2_told_3 24 rfl rfl
theorem dksX2_told_5 : cX2_told.data.toList.drop 116 = dktX2_told_5 := dk_seg dksX2_told_4 24 rfl rfl
theorem dX2_told_0 : decode cX2_told 0 = .ok (.new 312, 3) := dk_187 1 56 (dk_at dksX2_told_0 0 rfl rfl)
theorem dX2_told_3 : decode cX2_told 3 = .ok (.dup, 1) := dk_89 (dk_at dksX2_told_0 3 rfl rfl)
theorem dX2_told_4 : decode cX2_told 4 = .ok (.invokespecial 314, 3) := dk_183 1 58 (dk_at dksX2_told_0 4 rfl rfl)
theorem dX2_told_7 : decode cX2_told 7 = .ok (.astore_n 2, 1) := dk_77 (dk_at dksX2_told_0 7 rfl rfl)
theorem dX2_told_8 : decode cX2_told 8 = .ok (.aload_n 2, 1) := dk_44 (dk_at dksX2_told_0 8 rfl rfl)
theorem dX2_told_9 : decode cX2_told 9 = .ok (.aload_n 1, 1) := dk_43 (dk_at dksX2_told_0 9 rfl rfl)
theorem dX2_told_10 : decode cX2_told 10 = .ok (.getfield 181, 3) := dk_180 0 181 (dk_at dksX2_told_0 10 rfl rfl)
theorem dX2_told_13 : decode cX2_told 13 = .ok (.invokevirtual 315, 3) := dk_182 1 59 (dk_at dksX2_told_0 13 rfl rfl)
theorem dX2_told_16 : decode cX2_told 16 = .ok (.ldc_w 319, 3) := dk_19 1 63 (dk_at dksX2_told_0 16 rfl rfl)
theorem dX2_told_19 : decode cX2_told 19 = .ok (.invokevirtual 321, 3) := dk_182 1 65 (dk_at dksX2_told_0 19 rfl rfl)
theorem dX2_told_22 : decode cX2_told 22 = .ok (.aload_n 1, 1) := dk_43 (dk_at dksX2_told_0 22 rfl rfl)
theorem dX2_told_23 : decode cX2_told 23 = .ok (.getfield 158, 3) := dk_180 0 158 (dk_at dksX2_told_1 0 rfl rfl)
theorem dX2_told_26 : decode cX2_told 26 = .ok (.invokevirtual 315, 3) := dk_182 1 59 (dk_at dksX2_told_1 3 rfl rfl)
theorem dX2_told_29 : decode cX2_told 29 = .ok (.bipush 47, 2) := dk_16 47 (dk_at dksX2_told_1 6 rfl rfl)
theorem dX2_told_31 : decode cX2_told 31 = .ok (.invokevirtual 324, 3) := dk_182 1 68 (dk_at dksX2_told_1 8 rfl rfl)
theorem dX2_told_34 : decode cX2_told 34 = .ok (.bipush 10, 2) := dk_16 10 (dk_at dksX2_told_1 11 rfl rfl)
theorem dX2_told_36 : decode cX2_told 36 = .ok (.aload_n 1, 1) := dk_43 (dk_at dksX2_told_1 13 rfl rfl)
theorem dX2_told_37 : decode cX2_told 37 = .ok (.getfield 172, 3) := dk_180 0 172 (dk_at dksX2_told_1 14 rfl rfl)
theorem dX2_told_40 : decode cX2_told 40 = .ok (.imul, 1) := dk_104 (dk_at dksX2_told_1 17 rfl rfl)
theorem dX2_told_41 : decode cX2_told 41 = .ok (.invokevirtual 315, 3) := dk_182 1 59 (dk_at dksX2_told_1 18 rfl rfl)
theorem dX2_told_44 : decode cX2_told 44 = .ok (.ldc_w 327, 3) := dk_19 1 71 (dk_at dksX2_told_1 21 rfl rfl)
theorem dX2_told_47 : decode cX2_told 47 = .ok (.invokevirtual 321, 3) := dk_182 1 65 (dk_at dksX2_told_2 0 rfl rfl)
theorem dX2_told_50 : decode cX2_told 50 = .ok (.astore_n 3, 1) := dk_78 (dk_at dksX2_told_2 3 rfl rfl)
theorem dX2_told_51 : decode cX2_told 51 = .ok (.aload_n 0, 1) := dk_42 (dk_at dksX2_told_2 4 rfl rfl)
theorem dX2_told_52 : decode cX2_told 52 = .ok (.aload_n 1, 1) := dk_43 (dk_at dksX2_told_2 5 rfl rfl)
theorem dX2_told_53 : decode cX2_told 53 = .ok (.getfield 165, 3) := dk_180 0 165 (dk_at dksX2_told_2 6 rfl rfl)
theorem dX2_told_56 : decode cX2_told 56 = .ok (.invokevirtual 329, 3) := dk_182 1 73 (dk_at dksX2_told_2 9 rfl rfl)
theorem dX2_told_59 : decode cX2_told 59 = .ok (.invokeinterface 333 1, 5) := by decide +kernel
theorem dX2_told_64 : decode cX2_told 64 = .ok (.astore 4, 2) := dk_58 4 (dk_at dksX2_told_2 17 rfl rfl)
theorem dX2_told_66 : decode cX2_told 66 = .ok (.aload 4, 2) := dk_25 4 (dk_at dksX2_told_2 19 rfl rfl)
theorem dX2_told_68 : decode cX2_told 68 = .ok (.invokeinterface 114 1, 5) := by decide +kernel
theorem dX2_told_73 : decode cX2_told 73 = .ok (.ifCond .eq 34, 3) := dk_153 0 34 (dk_at dksX2_told_3 5 rfl rfl)
theorem dX2_told_76 : decode cX2_told 76 = .ok (.aload 4, 2) := dk_25 4 (dk_at dksX2_told_3 8 rfl rfl)
theorem dX2_told_78 : decode cX2_told 78 = .ok (.invokeinterface 120 1, 5) := by decide +kernel
theorem dX2_told_83 : decode cX2_told 83 = .ok (.checkcast 74, 3) := dk_192 0 74 (dk_at dksX2_told_3 15 rfl rfl)
theorem dX2_told_86 : decode cX2_told 86 = .ok (.astore 5, 2) := dk_58 5 (dk_at dksX2_told_3 18 rfl rfl)
theorem dX2_told_88 : decode cX2_told 88 = .ok (.aload_n 2, 1) := dk_44 (dk_at dksX2_told_3 20 rfl rfl)
theorem dX2_told_89 : decode cX2_told 89 = .ok (.ldc_w 336, 3) := dk_19 1 80 (dk_at dksX2_told_3 21 rfl rfl)
theorem dX2_told_92 : decode cX2_told 92 = .ok (.invokevirtual 321, 3) := dk_182 1 65 (dk_at dksX2_told_4 0 rfl rfl)
theorem dX2_told_95 : decode cX2_told 95 = .ok (.aload 5, 2) := dk_25 5 (dk_at dksX2_told_4 3 rfl rfl)
theorem dX2_told_97 : decode cX2_told 97 = .ok (.getfield 338, 3) := dk_180 1 82 (dk_at dksX2_told_4 5 rfl rfl)
theorem dX2_told_100 : decode cX2_told 100 = .ok (.invokevirtual 315, 3) := dk_182 1 59 (dk_at dksX2_told_4 8 rfl rfl)
theorem dX2_told_103 : decode cX2_told 103 = .ok (.astore_n 3, 1) := dk_78 (dk_at dksX2_told_4 11 rfl rfl)
theorem dX2_told_104 : decode cX2_told 104 = .ok (.goto (-38), 3) := dk_167 255 218 (dk_at dksX2_told_4 12 rfl rfl)
theorem dX2_told_107 : decode cX2_told 107 = .ok (.aload_n 3, 1) := dk_45 (dk_at dksX2_told_4 15 rfl rfl)
theorem dX2_told_108 : decode cX2_told 108 = .ok (.aload_n 0, 1) := dk_42 (dk_at dksX2_told_4 16 rfl rfl)
theorem dX2_told_109 : decode cX2_told 109 = .ok (.aload_n 1, 1) := dk_43 (dk_at dksX2_told_4 17 rfl rfl)
theorem dX2_told_110 : decode cX2_told 110 = .ok (.invokevirtual 339, 3) := dk_182 1 83 (dk_at dksX2_told_4 18 rfl rfl)
theorem dX2_told_113 : decode cX2_told 113 = .ok (.ifCond .le 9, 3) := dk_158 0 9 (dk_at dksX2_told_4 21 rfl rfl)
theorem dX2_told_116 : decode cX2_told 116 = .ok (.ldc_w 343, 3) := dk_19 1 87 (dk_at dksX2_told_5 0 rfl rfl)
theorem dX2_told_119 : decode cX2_told 119 = .ok (.goto 6, 3) := dk_167 0 6 (dk_at dksX2_told_5 3 rfl rfl)
theorem dX2_told_122 : decode cX2_told 122 = .ok (.ldc_w 345, 3) := dk_19 1 89 (dk_at dksX2_told_5 6 rfl rfl)
theorem dX2_told_125 : decode cX2_told 125 = .ok (.invokevirtual 321, 3) := dk_182 1 65 (dk_at dksX2_told_5 9 rfl rfl)
theorem dX2_told_128 : decode cX2_told 128 = .ok (.invokevirtual 347, 3) := dk_182 1 91 (dk_at dksX2_told_5 12 rfl rfl)
theorem dX2_told_131 : decode cX2_told 131 = .ok (.areturn, 1) := dk_176 (dk_at dksX2_told_5 15 rfl rfl)
abbrev cX2_outOfBalance : ByteArray := prog_18_method_35_code
def yX2_outOfBalance : MethodName := ⟨RX2, "outOfBalance", "()I"⟩
def dkwX2_outOfBalance_2 : List UInt8 := [167, 0, 4, 3, 96, 60, 167, 255, 218, 27, 172]
abbrev dktX2_outOfBalance_2 : List UInt8 := dkwX2_outOfBalance_2 ++ []
def dkwX2_outOfBalance_1 : List UInt8 := [185, 0, 120, 1, 0, 192, 0, 72, 78, 27, 45, 182, 0, 251, 42, 180, 0, 33, 164, 0, 7, 4]
abbrev dktX2_outOfBalance_1 : List UInt8 := dkwX2_outOfBalance_1 ++ dktX2_outOfBalance_2
def dkwX2_outOfBalance_0 : List UInt8 := [3, 60, 42, 180, 0, 14, 182, 0, 110, 77, 44, 185, 0, 114, 1, 0, 153, 0, 35, 44]
abbrev dktX2_outOfBalance_0 : List UInt8 := dkwX2_outOfBalance_0 ++ dktX2_outOfBalance_1
theorem dksX2_outOfBalance_0 : cX2_outOfBalance.data.toList.drop 0 = dktX2_outOfBalance_0 := by decide +kernel
theorem dksX2_outOfBalance_1 : cX2_outOfBalance.data.toList.drop 20 = dktX2_outOfBalance_1 := dk_seg dksX2_outOfBalance_0 20 rfl rfl
theorem dksX2_outOfBalance_2 : cX2_outOfBalance.data.toList.drop 42 = dktX2_outOfBalance_2 := dk_seg dksX2_outOfBalance_1 22 rfl rfl
theorem dX2_outOfBalance_0 : decode cX2_outOfBalance 0 = .ok (.iconst 0, 1) := dk_3 (dk_at dksX2_outOfBalance_0 0 rfl rfl)
theorem dX2_outOfBalance_1 : decode cX2_outOfBalance 1 = .ok (.istore_n 1, 1) := dk_60 (dk_at dksX2_outOfBalance_0 1 rfl rfl)
theorem dX2_outOfBalance_2 : decode cX2_outOfBalance 2 = .ok (.aload_n 0, 1) := dk_42 (dk_at dksX2_outOfBalance_0 2 rfl rfl)
theorem dX2_outOfBalance_3 : decode cX2_outOfBalance 3 = .ok (.getfield 14, 3) := dk_180 0 14 (dk_at dksX2_outOfBalance_0 3 rfl rfl)
theorem dX2_outOfBalance_6 : decode cX2_outOfBalance 6 = .ok (.invokevirtual 110, 3) := dk_182 0 110 (dk_at dksX2_outOfBalance_0 6 rfl rfl)
theorem dX2_outOfBalance_9 : decode cX2_outOfBalance 9 = .ok (.astore_n 2, 1) := dk_77 (dk_at dksX2_outOfBalance_0 9 rfl rfl)
theorem dX2_outOfBalance_10 : decode cX2_outOfBalance 10 = .ok (.aload_n 2, 1) := dk_44 (dk_at dksX2_outOfBalance_0 10 rfl rfl)
theorem dX2_outOfBalance_11 : decode cX2_outOfBalance 11 = .ok (.invokeinterface 114 1, 5) := by decide +kernel
theorem dX2_outOfBalance_16 : decode cX2_outOfBalance 16 = .ok (.ifCond .eq 35, 3) := dk_153 0 35 (dk_at dksX2_outOfBalance_0 16 rfl rfl)
theorem dX2_outOfBalance_19 : decode cX2_outOfBalance 19 = .ok (.aload_n 2, 1) := dk_44 (dk_at dksX2_outOfBalance_0 19 rfl rfl)
theorem dX2_outOfBalance_20 : decode cX2_outOfBalance 20 = .ok (.invokeinterface 120 1, 5) := by decide +kernel
theorem dX2_outOfBalance_25 : decode cX2_outOfBalance 25 = .ok (.checkcast 72, 3) := dk_192 0 72 (dk_at dksX2_outOfBalance_1 5 rfl rfl)
theorem dX2_outOfBalance_28 : decode cX2_outOfBalance 28 = .ok (.astore_n 3, 1) := dk_78 (dk_at dksX2_outOfBalance_1 8 rfl rfl)
theorem dX2_outOfBalance_29 : decode cX2_outOfBalance 29 = .ok (.iload_n 1, 1) := dk_27 (dk_at dksX2_outOfBalance_1 9 rfl rfl)
theorem dX2_outOfBalance_30 : decode cX2_outOfBalance 30 = .ok (.aload_n 3, 1) := dk_45 (dk_at dksX2_outOfBalance_1 10 rfl rfl)
theorem dX2_outOfBalance_31 : decode cX2_outOfBalance 31 = .ok (.invokevirtual 251, 3) := dk_182 0 251 (dk_at dksX2_outOfBalance_1 11 rfl rfl)
theorem dX2_outOfBalance_34 : decode cX2_outOfBalance 34 = .ok (.aload_n 0, 1) := dk_42 (dk_at dksX2_outOfBalance_1 14 rfl rfl)
theorem dX2_outOfBalance_35 : decode cX2_outOfBalance 35 = .ok (.getfield 33, 3) := dk_180 0 33 (dk_at dksX2_outOfBalance_1 15 rfl rfl)
theorem dX2_outOfBalance_38 : decode cX2_outOfBalance 38 = .ok (.if_icmp .le 7, 3) := dk_164 0 7 (dk_at dksX2_outOfBalance_1 18 rfl rfl)
theorem dX2_outOfBalance_41 : decode cX2_outOfBalance 41 = .ok (.iconst 1, 1) := dk_4 (dk_at dksX2_outOfBalance_1 21 rfl rfl)
theorem dX2_outOfBalance_42 : decode cX2_outOfBalance 42 = .ok (.goto 4, 3) := dk_167 0 4 (dk_at dksX2_outOfBalance_2 0 rfl rfl)
theorem dX2_outOfBalance_45 : decode cX2_outOfBalance 45 = .ok (.iconst 0, 1) := dk_3 (dk_at dksX2_outOfBalance_2 3 rfl rfl)
theorem dX2_outOfBalance_46 : decode cX2_outOfBalance 46 = .ok (.iadd, 1) := dk_96 (dk_at dksX2_outOfBalance_2 4 rfl rfl)
theorem dX2_outOfBalance_47 : decode cX2_outOfBalance 47 = .ok (.istore_n 1, 1) := dk_60 (dk_at dksX2_outOfBalance_2 5 rfl rfl)
theorem dX2_outOfBalance_48 : decode cX2_outOfBalance 48 = .ok (.goto (-38), 3) := dk_167 255 218 (dk_at dksX2_outOfBalance_2 6 rfl rfl)
theorem dX2_outOfBalance_51 : decode cX2_outOfBalance 51 = .ok (.iload_n 1, 1) := dk_27 (dk_at dksX2_outOfBalance_2 9 rfl rfl)
theorem dX2_outOfBalance_52 : decode cX2_outOfBalance 52 = .ok (.ireturn, 1) := dk_172 (dk_at dksX2_outOfBalance_2 10 rfl rfl)
theorem q70 : (Jvm.Cond.initialized "CurtainRiggers$Theatre") ∈ lw_all := lw_g (lw_at lw_m1 2 rfl) rfl
theorem q127 : (Jvm.Cond.instantiable "CurtainRiggers$Theatre" (12 : Nat)) ∈ lw_all := lw_g (lw_at lw_m1 59 rfl) rfl
theorem q129 : (Jvm.Cond.instanceMethod ({ cls := "CurtainRiggers$Theatre", name := "<init>", desc := "()V" } : Jvm.MethodName)) ∈ lw_all := lw_g (lw_at lw_m1 61 rfl) rfl
theorem q130 : (Jvm.Cond.code ({ cls := "CurtainRiggers$Theatre", name := "<init>", desc := "()V" } : Jvm.MethodName) prog_18_method_1_code (1 : Nat) (Option.none : Option Jvm.ClassFile.FieldType)) ∈ lw_all := lw_g (lw_at lw_m1 62 rfl) rfl
theorem q131 : (Jvm.Cond.methodLink "CurtainRiggers$Theatre" (3 : Nat) ({ cls := "java/lang/Object", name := "<init>", desc := "()V" } : Jvm.MethodName)) ∈ lw_all := lw_g (lw_at lw_m1 63 rfl) rfl
theorem q132 : (Jvm.Cond.classLink "CurtainRiggers$Theatre" (9 : Nat) "CurtainRiggers$Row") ∈ lw_all := lw_g (lw_at lw_m1 64 rfl) rfl
theorem q134 : (Jvm.Cond.methodLink "CurtainRiggers$Theatre" (11 : Nat) ({ cls := "CurtainRiggers$Row", name := "<init>", desc := "(I)V" } : Jvm.MethodName)) ∈ lw_all := lw_g (lw_at lw_m1 66 rfl) rfl
theorem q175 : (Jvm.Cond.fieldLink "CurtainRiggers$Theatre" (14 : Nat) "CurtainRiggers$Theatre" "bars" "LCurtainRiggers$Row;") ∈ lw_all := lw_g (lw_at lw_m1 107 rfl) rfl
theorem q178 : (Jvm.Cond.fieldLink "CurtainRiggers$Theatre" (20 : Nat) "CurtainRiggers$Theatre" "curtains" "LCurtainRiggers$Row;") ∈ lw_all := lw_g (lw_at lw_m1 110 rfl) rfl
theorem q180 : (Jvm.Cond.fieldLink "CurtainRiggers$Theatre" (23 : Nat) "CurtainRiggers$Theatre" "hands" "LCurtainRiggers$Row;") ∈ lw_all := lw_g (lw_at lw_m1 112 rfl) rfl
theorem q182 : (Jvm.Cond.fieldLink "CurtainRiggers$Theatre" (26 : Nat) "CurtainRiggers$Theatre" "cues" "LCurtainRiggers$Row;") ∈ lw_all := lw_g (lw_at lw_m1 114 rfl) rfl
theorem q184 : (Jvm.Cond.fieldLink "CurtainRiggers$Theatre" (29 : Nat) "CurtainRiggers$Theatre" "isOpen" "[Z") ∈ lw_all := lw_g (lw_at lw_m1 116 rfl) rfl
theorem q185 : (Jvm.Cond.fieldLink "CurtainRiggers$Theatre" (33 : Nat) "CurtainRiggers$Theatre" "told" "I") ∈ lw_all := lw_g (lw_at lw_m1 117 rfl) rfl
theorem q187 : (Jvm.Cond.fieldLink "CurtainRiggers$Theatre" (37 : Nat) "CurtainRiggers$Theatre" "store" "I") ∈ lw_all := lw_g (lw_at lw_m1 119 rfl) rfl
theorem q189 : (Jvm.Cond.fieldLink "CurtainRiggers$Theatre" (40 : Nat) "CurtainRiggers$Theatre" "coins" "I") ∈ lw_all := lw_g (lw_at lw_m1 121 rfl) rfl
theorem q191 : (Jvm.Cond.fieldLink "CurtainRiggers$Theatre" (57 : Nat) "CurtainRiggers$Theatre" "years" "I") ∈ lw_all := lw_g (lw_at lw_m1 123 rfl) rfl
theorem q193 : (Jvm.Cond.fieldLink "CurtainRiggers$Theatre" (43 : Nat) "CurtainRiggers$Theatre" "lastLight" "I") ∈ lw_all := lw_g (lw_at lw_m1 125 rfl) rfl
theorem q194 : (Jvm.Cond.fieldLink "CurtainRiggers$Theatre" (60 : Nat) "CurtainRiggers$Theatre" "played" "I") ∈ lw_all := lw_g (lw_at lw_m1 126 rfl) rfl
theorem q196 : (Jvm.Cond.fieldLink "CurtainRiggers$Theatre" (63 : Nat) "CurtainRiggers$Theatre" "flights" "I") ∈ lw_all := lw_g (lw_at lw_m1 128 rfl) rfl
theorem q198 : (Jvm.Cond.lays "CurtainRiggers$Theatre" "CurtainRiggers$Theatre" "bars" "LCurtainRiggers$Row;") ∈ lw_all := lw_g (lw_at lw_m1 130 rfl) rfl
theorem q199 : (Jvm.Cond.soleField "CurtainRiggers$Theatre" "bars") ∈ lw_all := lw_g (lw_at lw_m1 131 rfl) rfl
theorem q200 : (Jvm.Cond.lays "CurtainRiggers$Theatre" "CurtainRiggers$Theatre" "curtains" "LCurtainRiggers$Row;") ∈ lw_all := lw_g (lw_at lw_m1 132 rfl) rfl
theorem q201 : (Jvm.Cond.soleField "CurtainRiggers$Theatre" "curtains") ∈ lw_all := lw_g (lw_at lw_m1 133 rfl) rfl
theorem q202 : (Jvm.Cond.lays "CurtainRiggers$Theatre" "CurtainRiggers$Theatre" "hands" "LCurtainRiggers$Row;") ∈ lw_all := lw_g (lw_at lw_m1 134 rfl) rfl
theorem q203 : (Jvm.Cond.soleField "CurtainRiggers$Theatre" "hands") ∈ lw_all := lw_g (lw_at lw_m1 135 rfl) rfl
theorem q204 : (Jvm.Cond.lays "CurtainRiggers$Theatre" "CurtainRiggers$Theatre" "cues" "LCurtainRiggers$Row;") ∈ lw_all := lw_g (lw_at lw_m1 136 rfl) rfl
theorem q205 : (Jvm.Cond.soleField "CurtainRiggers$Theatre" "cues") ∈ lw_all := lw_g (lw_at lw_m1 137 rfl) rfl
theorem q206 : (Jvm.Cond.laysFinal "CurtainRiggers$Theatre" "CurtainRiggers$Theatre" "isOpen" "[Z") ∈ lw_all := lw_g (lw_at lw_m1 138 rfl) rfl
theorem q207 : (Jvm.Cond.soleField "CurtainRiggers$Theatre" "isOpen") ∈ lw_all := lw_g (lw_at lw_m1 139 rfl) rfl
theorem q208 : (Jvm.Cond.lays "CurtainRiggers$Theatre" "CurtainRiggers$Theatre" "told" "I") ∈ lw_all := lw_g (lw_at lw_m1 140 rfl) rfl
theorem q209 : (Jvm.Cond.soleField "CurtainRiggers$Theatre" "told") ∈ lw_all := lw_g (lw_at lw_m1 141 rfl) rfl
theorem q210 : (Jvm.Cond.lays "CurtainRiggers$Theatre" "CurtainRiggers$Theatre" "store" "I") ∈ lw_all := lw_g (lw_at lw_m1 142 rfl) rfl
theorem q211 : (Jvm.Cond.soleField "CurtainRiggers$Theatre" "store") ∈ lw_all := lw_g (lw_at lw_m1 143 rfl) rfl
theorem q212 : (Jvm.Cond.lays "CurtainRiggers$Theatre" "CurtainRiggers$Theatre" "coins" "I") ∈ lw_all := lw_g (lw_at lw_m1 144 rfl) rfl
theorem q213 : (Jvm.Cond.soleField "CurtainRiggers$Theatre" "coins") ∈ lw_all := lw_g (lw_at lw_m1 145 rfl) rfl
theorem q214 : (Jvm.Cond.lays "CurtainRiggers$Theatre" "CurtainRiggers$Theatre" "years" "I") ∈ lw_all := lw_g (lw_at lw_m1 146 rfl) rfl
theorem q215 : (Jvm.Cond.soleField "CurtainRiggers$Theatre" "years") ∈ lw_all := lw_g (lw_at lw_m1 147 rfl) rfl
theorem q216 : (Jvm.Cond.lays "CurtainRiggers$Theatre" "CurtainRiggers$Theatre" "lastLight" "I") ∈ lw_all := lw_g (lw_at lw_m1 148 rfl) rfl
theorem q217 : (Jvm.Cond.soleField "CurtainRiggers$Theatre" "lastLight") ∈ lw_all := lw_g (lw_at lw_m1 149 rfl) rfl
theorem q218 : (Jvm.Cond.lays "CurtainRiggers$Theatre" "CurtainRiggers$Theatre" "played" "I") ∈ lw_all := lw_g (lw_at lw_m1 150 rfl) rfl
theorem q219 : (Jvm.Cond.soleField "CurtainRiggers$Theatre" "played") ∈ lw_all := lw_g (lw_at lw_m1 151 rfl) rfl
theorem q220 : (Jvm.Cond.lays "CurtainRiggers$Theatre" "CurtainRiggers$Theatre" "flights" "I") ∈ lw_all := lw_g (lw_at lw_m1 152 rfl) rfl
theorem q221 : (Jvm.Cond.soleField "CurtainRiggers$Theatre" "flights") ∈ lw_all := lw_g (lw_at lw_m1 153 rfl) rfl
theorem q222 : (Jvm.Cond.superclass "CurtainRiggers$Theatre" "java/lang/Object") ∈ lw_all := lw_g (lw_at lw_m1 154 rfl) rfl
theorem q326 : (Jvm.Cond.instanceMethod ({ cls := "CurtainRiggers$Theatre", name := "playable", desc := "()I" } : Jvm.MethodName)) ∈ lw_all := lw_g (lw_at lw_m2 18 rfl) rfl
theorem q327 : (Jvm.Cond.selects "CurtainRiggers$Theatre" ({ cls := "CurtainRiggers$Theatre", name := "playable", desc := "()I" } : Jvm.MethodName) ({ cls := "CurtainRiggers$Theatre", name := "playable", desc := "()I" } : Jvm.MethodName)) ∈ lw_all := lw_g (lw_at lw_m2 19 rfl) rfl
theorem q328 : (Jvm.Cond.codeWith ({ cls := "CurtainRiggers$Theatre", name := "playable", desc := "()I" } : Jvm.MethodName) prog_18_method_34_code (4 : Nat) (Option.some Jvm.ClassFile.FieldType.int) [((7 : Nat), (25 : Nat), (26 : Nat), (103 : Nat))]) ∈ lw_all := lw_g (lw_at lw_m2 20 rfl) rfl
theorem q329 : (Jvm.Cond.classLink "CurtainRiggers$Theatre" (103 : Nat) "CurtainRiggers$Refused") ∈ lw_all := lw_g (lw_at lw_m2 21 rfl) rfl
theorem q330 : (Jvm.Cond.methodLink "CurtainRiggers$Theatre" (306 : Nat) ({ cls := "CurtainRiggers$Theatre", name := "copy", desc := "()LCurtainRiggers$Theatre;" } : Jvm.MethodName)) ∈ lw_all := lw_g (lw_at lw_m2 22 rfl) rfl
theorem q331 : (Jvm.Cond.instanceMethod ({ cls := "CurtainRiggers$Theatre", name := "copy", desc := "()LCurtainRiggers$Theatre;" } : Jvm.MethodName)) ∈ lw_all := lw_g (lw_at lw_m2 23 rfl) rfl
theorem q332 : (Jvm.Cond.selects "CurtainRiggers$Theatre" ({ cls := "CurtainRiggers$Theatre", name := "copy", desc := "()LCurtainRiggers$Theatre;" } : Jvm.MethodName) ({ cls := "CurtainRiggers$Theatre", name := "copy", desc := "()LCurtainRiggers$Theatre;" } : Jvm.MethodName)) ∈ lw_all := lw_g (lw_at lw_m2 24 rfl) rfl
theorem q333 : (Jvm.Cond.code ({ cls := "CurtainRiggers$Theatre", name := "copy", desc := "()LCurtainRiggers$Theatre;" } : Jvm.MethodName) prog_18_method_2_code (2 : Nat) (Option.some (Jvm.ClassFile.FieldType.object "CurtainRiggers$Theatre"))) ∈ lw_all := lw_g (lw_at lw_m2 25 rfl) rfl
theorem q334 : (Jvm.Cond.classLink "CurtainRiggers$Theatre" (15 : Nat) "CurtainRiggers$Theatre") ∈ lw_all := lw_g (lw_at lw_m2 26 rfl) rfl
theorem q335 : (Jvm.Cond.methodLink "CurtainRiggers$Theatre" (46 : Nat) ({ cls := "CurtainRiggers$Theatre", name := "<init>", desc := "()V" } : Jvm.MethodName)) ∈ lw_all := lw_g (lw_at lw_m2 27 rfl) rfl
theorem q336 : (Jvm.Cond.methodLink "CurtainRiggers$Theatre" (47 : Nat) ({ cls := "CurtainRiggers$Row", name := "copy", desc := "()LCurtainRiggers$Row;" } : Jvm.MethodName)) ∈ lw_all := lw_g (lw_at lw_m2 28 rfl) rfl
theorem q531 : (Jvm.Cond.fieldLinkNest "CurtainRiggers$Theatre" (165 : Nat) "CurtainRiggers$Bar" "number" "I" "CurtainRiggers") ∈ lw_tbl := lw_at lw_m2 223 rfl
theorem q535 : (Jvm.Cond.fieldLinkNest "CurtainRiggers$Theatre" (181 : Nat) "CurtainRiggers$Bar" "height" "I" "CurtainRiggers") ∈ lw_tbl := lw_at lw_m2 227 rfl
theorem q539 : (Jvm.Cond.fieldLinkNest "CurtainRiggers$Theatre" (158 : Nat) "CurtainRiggers$Bar" "load" "I" "CurtainRiggers") ∈ lw_tbl := lw_at lw_m2 231 rfl
theorem q546 : (Jvm.Cond.fieldLinkNest "CurtainRiggers$Theatre" (172 : Nat) "CurtainRiggers$Bar" "weights" "I" "CurtainRiggers") ∈ lw_tbl := lw_at lw_m2 238 rfl
theorem q550 : (Jvm.Cond.fieldLinkNest "CurtainRiggers$Theatre" (101 : Nat) "CurtainRiggers$Bar" "years" "I" "CurtainRiggers") ∈ lw_tbl := lw_at lw_m3 2 rfl
theorem q555 : (Jvm.Cond.fieldLinkNest "CurtainRiggers$Theatre" (267 : Nat) "CurtainRiggers$Bar" "flown" "I" "CurtainRiggers") ∈ lw_tbl := lw_at lw_m3 7 rfl
theorem q599 : (Jvm.Cond.fieldLinkNest "CurtainRiggers$Theatre" (338 : Nat) "CurtainRiggers$Curtain" "number" "I" "CurtainRiggers") ∈ lw_tbl := lw_at lw_m3 51 rfl
theorem q606 : (Jvm.Cond.fieldLinkNest "CurtainRiggers$Theatre" (149 : Nat) "CurtainRiggers$Curtain" "bar" "I" "CurtainRiggers") ∈ lw_tbl := lw_at lw_m3 58 rfl
theorem q636 : (Jvm.Cond.fieldLinkNest "CurtainRiggers$Theatre" (226 : Nat) "CurtainRiggers$Hand" "floor" "I" "CurtainRiggers") ∈ lw_tbl := lw_at lw_m3 88 rfl
theorem q690 : (Jvm.Cond.selects "CurtainRiggers$Theatre" ({ cls := "java/lang/Object", name := "getClass", desc := "()Ljava/lang/Class;" } : Jvm.MethodName) ({ cls := "java/lang/Object", name := "getClass", desc := "()Ljava/lang/Class;" } : Jvm.MethodName)) ∈ lw_all := lw_g (lw_at lw_m3 142 rfl) rfl
theorem q721 : (Jvm.Cond.methodLink "CurtainRiggers$Theatre" (51 : Nat) ({ cls := "java/lang/System", name := "arraycopy", desc := "(Ljava/lang/Object;ILjava/lang/Object;II)V" } : Jvm.MethodName)) ∈ lw_all := lw_g (lw_at lw_m3 173 rfl) rfl
theorem q722 : (Jvm.Cond.methodLink "CurtainRiggers$Theatre" (309 : Nat) ({ cls := "CurtainRiggers$Theatre", name := "go", desc := "()I" } : Jvm.MethodName)) ∈ lw_all := lw_g (lw_at lw_m3 174 rfl) rfl
theorem q723 : (Jvm.Cond.instanceMethod ({ cls := "CurtainRiggers$Theatre", name := "go", desc := "()I" } : Jvm.MethodName)) ∈ lw_all := lw_g (lw_at lw_m3 175 rfl) rfl
theorem q724 : (Jvm.Cond.selects "CurtainRiggers$Theatre" ({ cls := "CurtainRiggers$Theatre", name := "go", desc := "()I" } : Jvm.MethodName) ({ cls := "CurtainRiggers$Theatre", name := "go", desc := "()I" } : Jvm.MethodName)) ∈ lw_all := lw_g (lw_at lw_m3 176 rfl) rfl
theorem q725 : (Jvm.Cond.code ({ cls := "CurtainRiggers$Theatre", name := "go", desc := "()I" } : Jvm.MethodName) prog_18_method_33_code (4 : Nat) (Option.some Jvm.ClassFile.FieldType.int)) ∈ lw_all := lw_g (lw_at lw_m3 177 rfl) rfl
theorem q726 : (Jvm.Cond.methodLink "CurtainRiggers$Theatre" (302 : Nat) ({ cls := "CurtainRiggers$Theatre", name := "nextCue", desc := "()LCurtainRiggers$Cue;" } : Jvm.MethodName)) ∈ lw_all := lw_g (lw_at lw_m3 178 rfl) rfl
theorem q727 : (Jvm.Cond.instanceMethod ({ cls := "CurtainRiggers$Theatre", name := "nextCue", desc := "()LCurtainRiggers$Cue;" } : Jvm.MethodName)) ∈ lw_all := lw_g (lw_at lw_m3 179 rfl) rfl
theorem q728 : (Jvm.Cond.selects "CurtainRiggers$Theatre" ({ cls := "CurtainRiggers$Theatre", name := "nextCue", desc := "()LCurtainRiggers$Cue;" } : Jvm.MethodName) ({ cls := "CurtainRiggers$Theatre", name := "nextCue", desc := "()LCurtainRiggers$Cue;" } : Jvm.MethodName)) ∈ lw_all := lw_g (lw_at lw_m3 180 rfl) rfl
theorem q729 : (Jvm.Cond.code ({ cls := "CurtainRiggers$Theatre", name := "nextCue", desc := "()LCurtainRiggers$Cue;" } : Jvm.MethodName) prog_18_method_32_code (1 : Nat) (Option.some (Jvm.ClassFile.FieldType.object "CurtainRiggers$Cue"))) ∈ lw_all := lw_g (lw_at lw_m3 181 rfl) rfl
theorem q730 : (Jvm.Cond.methodLink "CurtainRiggers$Theatre" (298 : Nat) ({ cls := "CurtainRiggers$Theatre", name := "cuesAbove", desc := "(I)Ljava/util/ArrayList;" } : Jvm.MethodName)) ∈ lw_all := lw_g (lw_at lw_m3 182 rfl) rfl
theorem q731 : (Jvm.Cond.instanceMethod ({ cls := "CurtainRiggers$Theatre", name := "cuesAbove", desc := "(I)Ljava/util/ArrayList;" } : Jvm.MethodName)) ∈ lw_all := lw_g (lw_at lw_m3 183 rfl) rfl
theorem q732 : (Jvm.Cond.selects "CurtainRiggers$Theatre" ({ cls := "CurtainRiggers$Theatre", name := "cuesAbove", desc := "(I)Ljava/util/ArrayList;" } : Jvm.MethodName) ({ cls := "CurtainRiggers$Theatre", name := "cuesAbove", desc := "(I)Ljava/util/ArrayList;" } : Jvm.MethodName)) ∈ lw_all := lw_g (lw_at lw_m3 184 rfl) rfl
theorem q733 : (Jvm.Cond.code ({ cls := "CurtainRiggers$Theatre", name := "cuesAbove", desc := "(I)Ljava/util/ArrayList;" } : Jvm.MethodName) prog_18_method_31_code (7 : Nat) (Option.some (Jvm.ClassFile.FieldType.object "java/util/ArrayList"))) ∈ lw_all := lw_g (lw_at lw_m3 185 rfl) rfl
theorem q734 : (Jvm.Cond.classLink "CurtainRiggers$Theatre" (292 : Nat) "CurtainRiggers$ByLight") ∈ lw_all := lw_g (lw_at lw_m3 186 rfl) rfl
theorem q736 : (Jvm.Cond.methodLinkNest "CurtainRiggers$Theatre" (294 : Nat) ({ cls := "CurtainRiggers$ByLight", name := "<init>", desc := "()V" } : Jvm.MethodName) "CurtainRiggers") ∈ lw_tbl := lw_at lw_m3 188 rfl
theorem q741 : (Jvm.Cond.classLink "CurtainRiggers$Theatre" (175 : Nat) "java/util/ArrayList") ∈ lw_all := lw_g (lw_at lw_m3 193 rfl) rfl
theorem q742 : (Jvm.Cond.methodLink "CurtainRiggers$Theatre" (177 : Nat) ({ cls := "java/util/ArrayList", name := "<init>", desc := "()V" } : Jvm.MethodName)) ∈ lw_all := lw_g (lw_at lw_m3 194 rfl) rfl
theorem q743 : (Jvm.Cond.methodLink "CurtainRiggers$Theatre" (110 : Nat) ({ cls := "CurtainRiggers$Row", name := "iterator", desc := "()Ljava/util/Iterator;" } : Jvm.MethodName)) ∈ lw_all := lw_g (lw_at lw_m3 195 rfl) rfl
theorem q760 : (Jvm.Cond.interfaceEntry "CurtainRiggers$Theatre" (114 : Nat)) ∈ lw_tbl := lw_at lw_m3 212 rfl
theorem q761 : (Jvm.Cond.methodLink "CurtainRiggers$Theatre" (114 : Nat) ({ cls := "java/util/Iterator", name := "hasNext", desc := "()Z" } : Jvm.MethodName)) ∈ lw_all := lw_g (lw_at lw_m3 213 rfl) rfl
theorem q762 : (Jvm.Cond.interfaceEntry "CurtainRiggers$Theatre" (120 : Nat)) ∈ lw_tbl := lw_at lw_m3 214 rfl
theorem q763 : (Jvm.Cond.methodLink "CurtainRiggers$Theatre" (120 : Nat) ({ cls := "java/util/Iterator", name := "next", desc := "()Ljava/lang/Object;" } : Jvm.MethodName)) ∈ lw_all := lw_g (lw_at lw_m3 215 rfl) rfl
theorem q764 : (Jvm.Cond.classLink "CurtainRiggers$Theatre" (276 : Nat) "CurtainRiggers$Cue") ∈ lw_all := lw_g (lw_at lw_m3 216 rfl) rfl
theorem q765 : (Jvm.Cond.methodLink "CurtainRiggers$Theatre" (200 : Nat) ({ cls := "java/util/ArrayList", name := "size", desc := "()I" } : Jvm.MethodName)) ∈ lw_all := lw_g (lw_at lw_m3 217 rfl) rfl
theorem q766 : (Jvm.Cond.methodLink "CurtainRiggers$Theatre" (201 : Nat) ({ cls := "java/util/ArrayList", name := "get", desc := "(I)Ljava/lang/Object;" } : Jvm.MethodName)) ∈ lw_all := lw_g (lw_at lw_m3 218 rfl) rfl
theorem q767 : (Jvm.Cond.methodLink "CurtainRiggers$Theatre" (295 : Nat) ({ cls := "CurtainRiggers$ByLight", name := "isAhead", desc := "(LCurtainRiggers$Cue;LCurtainRiggers$Cue;)Z" } : Jvm.MethodName)) ∈ lw_all := lw_g (lw_at lw_m3 219 rfl) rfl
theorem q801 : (Jvm.Cond.methodLink "CurtainRiggers$Theatre" (208 : Nat) ({ cls := "java/util/ArrayList", name := "add", desc := "(ILjava/lang/Object;)V" } : Jvm.MethodName)) ∈ lw_all := lw_g (lw_at lw_m4 13 rfl) rfl
theorem q1054 : (Jvm.Cond.methodLink "CurtainRiggers$Theatre" (193 : Nat) ({ cls := "CurtainRiggers$Order", name := "first", desc := "(Ljava/lang/Iterable;LCurtainRiggers$Order;)Ljava/lang/Object;" } : Jvm.MethodName)) ∈ lw_all := lw_g (lw_at lw_m5 26 rfl) rfl
theorem q1141 : (Jvm.Cond.methodLink "CurtainRiggers$Theatre" (135 : Nat) ({ cls := "CurtainRiggers$Row", name := "size", desc := "()I" } : Jvm.MethodName)) ∈ lw_all := lw_g (lw_at lw_m5 113 rfl) rfl
theorem q1142 : (Jvm.Cond.methodLink "CurtainRiggers$Theatre" (102 : Nat) ({ cls := "CurtainRiggers$Refused", name := "check", desc := "(ZII)V" } : Jvm.MethodName)) ∈ lw_all := lw_g (lw_at lw_m5 114 rfl) rfl
theorem q1164 : (Jvm.Cond.fieldLinkNest "CurtainRiggers$Theatre" (260 : Nat) "CurtainRiggers$Refused" "reason" "I" "CurtainRiggers") ∈ lw_tbl := lw_at lw_m5 136 rfl
theorem q1174 : (Jvm.Cond.methodLink "CurtainRiggers$Theatre" (161 : Nat) ({ cls := "CurtainRiggers$Row", name := "get", desc := "(I)LCurtainRiggers$Numbered;" } : Jvm.MethodName)) ∈ lw_all := lw_g (lw_at lw_m5 146 rfl) rfl
theorem q1179 : (Jvm.Cond.classLink "CurtainRiggers$Theatre" (72 : Nat) "CurtainRiggers$Bar") ∈ lw_all := lw_g (lw_at lw_m5 151 rfl) rfl
theorem q1180 : (Jvm.Cond.methodLink "CurtainRiggers$Theatre" (256 : Nat) ({ cls := "CurtainRiggers$Theatre", name := "checkFlight", desc := "(LCurtainRiggers$Bar;)V" } : Jvm.MethodName)) ∈ lw_all := lw_g (lw_at lw_m5 152 rfl) rfl
theorem q1181 : (Jvm.Cond.privateMethod ({ cls := "CurtainRiggers$Theatre", name := "checkFlight", desc := "(LCurtainRiggers$Bar;)V" } : Jvm.MethodName)) ∈ lw_tbl := lw_at lw_m5 153 rfl
theorem q1182 : (Jvm.Cond.instanceMethod ({ cls := "CurtainRiggers$Theatre", name := "checkFlight", desc := "(LCurtainRiggers$Bar;)V" } : Jvm.MethodName)) ∈ lw_all := lw_g (lw_at lw_m5 154 rfl) rfl
theorem q1183 : (Jvm.Cond.code ({ cls := "CurtainRiggers$Theatre", name := "checkFlight", desc := "(LCurtainRiggers$Bar;)V" } : Jvm.MethodName) prog_18_method_25_code (3 : Nat) (Option.none : Option Jvm.ClassFile.FieldType)) ∈ lw_all := lw_g (lw_at lw_m5 155 rfl) rfl
theorem q1184 : (Jvm.Cond.methodLink "CurtainRiggers$Theatre" (251 : Nat) ({ cls := "CurtainRiggers$Bar", name := "outBy", desc := "()I" } : Jvm.MethodName)) ∈ lw_all := lw_g (lw_at lw_m5 156 rfl) rfl
theorem q1189 : (Jvm.Cond.methodLink "CurtainRiggers$Theatre" (124 : Nat) ({ cls := "CurtainRiggers$Bar", name := "onRope", desc := "()I" } : Jvm.MethodName)) ∈ lw_all := lw_g (lw_at lw_m5 161 rfl) rfl
theorem q1193 : (Jvm.Cond.methodLink "CurtainRiggers$Theatre" (128 : Nat) ({ cls := "CurtainRiggers$Bar", name := "bears", desc := "()I" } : Jvm.MethodName)) ∈ lw_all := lw_g (lw_at lw_m5 165 rfl) rfl
theorem q1198 : (Jvm.Cond.methodLink "CurtainRiggers$Theatre" (254 : Nat) ({ cls := "CurtainRiggers$Bar", name := "floor", desc := "()I" } : Jvm.MethodName)) ∈ lw_all := lw_g (lw_at lw_m5 170 rfl) rfl
theorem q1202 : (Jvm.Cond.methodLink "CurtainRiggers$Theatre" (229 : Nat) ({ cls := "CurtainRiggers$Theatre", name := "strength", desc := "(I)I" } : Jvm.MethodName)) ∈ lw_all := lw_g (lw_at lw_m5 174 rfl) rfl
theorem q1203 : (Jvm.Cond.instanceMethod ({ cls := "CurtainRiggers$Theatre", name := "strength", desc := "(I)I" } : Jvm.MethodName)) ∈ lw_all := lw_g (lw_at lw_m5 175 rfl) rfl
theorem q1204 : (Jvm.Cond.selects "CurtainRiggers$Theatre" ({ cls := "CurtainRiggers$Theatre", name := "strength", desc := "(I)I" } : Jvm.MethodName) ({ cls := "CurtainRiggers$Theatre", name := "strength", desc := "(I)I" } : Jvm.MethodName)) ∈ lw_all := lw_g (lw_at lw_m5 176 rfl) rfl
theorem q1205 : (Jvm.Cond.code ({ cls := "CurtainRiggers$Theatre", name := "strength", desc := "(I)I" } : Jvm.MethodName) prog_18_method_20_code (2 : Nat) (Option.some Jvm.ClassFile.FieldType.int)) ∈ lw_all := lw_g (lw_at lw_m5 177 rfl) rfl
theorem q1206 : (Jvm.Cond.classLink "CurtainRiggers$Theatre" (233 : Nat) "CurtainRiggers$Theatre$1OnFloor") ∈ lw_all := lw_g (lw_at lw_m5 178 rfl) rfl
theorem q1208 : (Jvm.Cond.methodLink "CurtainRiggers$Theatre" (235 : Nat) ({ cls := "CurtainRiggers$Theatre$1OnFloor", name := "<init>", desc := "(LCurtainRiggers$Theatre;I)V" } : Jvm.MethodName)) ∈ lw_all := lw_g (lw_at lw_m5 180 rfl) rfl
theorem q1219 : (Jvm.Cond.methodLink "CurtainRiggers$Theatre" (81 : Nat) ({ cls := "CurtainRiggers$Measure", name := "sum", desc := "(Ljava/lang/Iterable;LCurtainRiggers$Measure;)I" } : Jvm.MethodName)) ∈ lw_all := lw_g (lw_at lw_m5 191 rfl) rfl
theorem q1254 : (Jvm.Cond.methodLink "CurtainRiggers$Theatre" (263 : Nat) ({ cls := "CurtainRiggers$Theatre", name := "noise", desc := "(LCurtainRiggers$Bar;I)I" } : Jvm.MethodName)) ∈ lw_all := lw_g (lw_at lw_m5 226 rfl) rfl
theorem q1255 : (Jvm.Cond.instanceMethod ({ cls := "CurtainRiggers$Theatre", name := "noise", desc := "(LCurtainRiggers$Bar;I)I" } : Jvm.MethodName)) ∈ lw_all := lw_g (lw_at lw_m5 227 rfl) rfl
theorem q1256 : (Jvm.Cond.selects "CurtainRiggers$Theatre" ({ cls := "CurtainRiggers$Theatre", name := "noise", desc := "(LCurtainRiggers$Bar;I)I" } : Jvm.MethodName) ({ cls := "CurtainRiggers$Theatre", name := "noise", desc := "(LCurtainRiggers$Bar;I)I" } : Jvm.MethodName)) ∈ lw_all := lw_g (lw_at lw_m5 228 rfl) rfl
theorem q1257 : (Jvm.Cond.code ({ cls := "CurtainRiggers$Theatre", name := "noise", desc := "(LCurtainRiggers$Bar;I)I" } : Jvm.MethodName) prog_18_method_23_code (3 : Nat) (Option.some Jvm.ClassFile.FieldType.int)) ∈ lw_all := lw_g (lw_at lw_m5 229 rfl) rfl
theorem q1258 : (Jvm.Cond.methodLink "CurtainRiggers$Theatre" (246 : Nat) ({ cls := "java/lang/Math", name := "abs", desc := "(I)I" } : Jvm.MethodName)) ∈ lw_all := lw_g (lw_at lw_m5 230 rfl) rfl
theorem q1259 : (Jvm.Cond.methodLink "CurtainRiggers$Theatre" (243 : Nat) ({ cls := "CurtainRiggers$Theatre", name := "openDoors", desc := "()I" } : Jvm.MethodName)) ∈ lw_all := lw_g (lw_at lw_m5 231 rfl) rfl
theorem q1260 : (Jvm.Cond.instanceMethod ({ cls := "CurtainRiggers$Theatre", name := "openDoors", desc := "()I" } : Jvm.MethodName)) ∈ lw_all := lw_g (lw_at lw_m5 232 rfl) rfl
theorem q1261 : (Jvm.Cond.selects "CurtainRiggers$Theatre" ({ cls := "CurtainRiggers$Theatre", name := "openDoors", desc := "()I" } : Jvm.MethodName) ({ cls := "CurtainRiggers$Theatre", name := "openDoors", desc := "()I" } : Jvm.MethodName)) ∈ lw_all := lw_g (lw_at lw_m5 233 rfl) rfl
theorem q1262 : (Jvm.Cond.code ({ cls := "CurtainRiggers$Theatre", name := "openDoors", desc := "()I" } : Jvm.MethodName) prog_18_method_21_code (6 : Nat) (Option.some Jvm.ClassFile.FieldType.int)) ∈ lw_all := lw_g (lw_at lw_m5 234 rfl) rfl
theorem q1263 : (Jvm.Cond.methodLink "CurtainRiggers$Theatre" (273 : Nat) ({ cls := "CurtainRiggers$Theatre", name := "lift", desc := "(LCurtainRiggers$Bar;I)I" } : Jvm.MethodName)) ∈ lw_all := lw_g (lw_at lw_m5 235 rfl) rfl
theorem q1264 : (Jvm.Cond.privateMethod ({ cls := "CurtainRiggers$Theatre", name := "lift", desc := "(LCurtainRiggers$Bar;I)I" } : Jvm.MethodName)) ∈ lw_tbl := lw_at lw_m5 236 rfl
theorem q1265 : (Jvm.Cond.instanceMethod ({ cls := "CurtainRiggers$Theatre", name := "lift", desc := "(LCurtainRiggers$Bar;I)I" } : Jvm.MethodName)) ∈ lw_all := lw_g (lw_at lw_m5 237 rfl) rfl
theorem q1266 : (Jvm.Cond.code ({ cls := "CurtainRiggers$Theatre", name := "lift", desc := "(LCurtainRiggers$Bar;I)I" } : Jvm.MethodName) prog_18_method_27_code (4 : Nat) (Option.some Jvm.ClassFile.FieldType.int)) ∈ lw_all := lw_g (lw_at lw_m5 238 rfl) rfl
theorem q1272 : (Jvm.Cond.instanceMethod ({ cls := "CurtainRiggers$Theatre", name := "toldCues", desc := "()Ljava/lang/String;" } : Jvm.MethodName)) ∈ lw_all := lw_g (lw_at lw_m6 4 rfl) rfl
theorem q1273 : (Jvm.Cond.selects "CurtainRiggers$Theatre" ({ cls := "CurtainRiggers$Theatre", name := "toldCues", desc := "()Ljava/lang/String;" } : Jvm.MethodName) ({ cls := "CurtainRiggers$Theatre", name := "toldCues", desc := "()Ljava/lang/String;" } : Jvm.MethodName)) ∈ lw_all := lw_g (lw_at lw_m6 5 rfl) rfl
theorem q1274 : (Jvm.Cond.code ({ cls := "CurtainRiggers$Theatre", name := "toldCues", desc := "()Ljava/lang/String;" } : Jvm.MethodName) prog_18_method_37_code (6 : Nat) (Option.some (Jvm.ClassFile.FieldType.object "java/lang/String"))) ∈ lw_all := lw_g (lw_at lw_m6 6 rfl) rfl
theorem q1275 : (Jvm.Cond.classLink "CurtainRiggers$Theatre" (312 : Nat) "java/lang/StringBuilder") ∈ lw_all := lw_g (lw_at lw_m6 7 rfl) rfl
theorem q1276 : (Jvm.Cond.methodLink "CurtainRiggers$Theatre" (314 : Nat) ({ cls := "java/lang/StringBuilder", name := "<init>", desc := "()V" } : Jvm.MethodName)) ∈ lw_all := lw_g (lw_at lw_m6 8 rfl) rfl
theorem q1277 : (Jvm.Cond.methodLink "CurtainRiggers$Theatre" (199 : Nat) ({ cls := "java/util/ArrayList", name := "iterator", desc := "()Ljava/util/Iterator;" } : Jvm.MethodName)) ∈ lw_all := lw_g (lw_at lw_m6 9 rfl) rfl
theorem q1278 : (Jvm.Cond.methodLink "CurtainRiggers$Theatre" (351 : Nat) ({ cls := "java/lang/StringBuilder", name := "length", desc := "()I" } : Jvm.MethodName)) ∈ lw_all := lw_g (lw_at lw_m6 10 rfl) rfl
theorem q1279 : (Jvm.Cond.stringRef "CurtainRiggers$Theatre" (345 : Nat) "") ∈ lw_tbl := lw_at lw_m6 11 rfl
theorem q1280 : (Jvm.Cond.stringRef "CurtainRiggers$Theatre" (354 : Nat) ", ") ∈ lw_tbl := lw_at lw_m6 12 rfl
theorem q1281 : (Jvm.Cond.methodLink "CurtainRiggers$Theatre" (321 : Nat) ({ cls := "java/lang/StringBuilder", name := "append", desc := "(Ljava/lang/String;)Ljava/lang/StringBuilder;" } : Jvm.MethodName)) ∈ lw_all := lw_g (lw_at lw_m6 13 rfl) rfl
theorem q1282 : (Jvm.Cond.methodLink "CurtainRiggers$Theatre" (315 : Nat) ({ cls := "java/lang/StringBuilder", name := "append", desc := "(I)Ljava/lang/StringBuilder;" } : Jvm.MethodName)) ∈ lw_all := lw_g (lw_at lw_m6 14 rfl) rfl
theorem q1283 : (Jvm.Cond.methodLink "CurtainRiggers$Theatre" (324 : Nat) ({ cls := "java/lang/StringBuilder", name := "append", desc := "(C)Ljava/lang/StringBuilder;" } : Jvm.MethodName)) ∈ lw_all := lw_g (lw_at lw_m6 15 rfl) rfl
theorem q1303 : (Jvm.Cond.stringRef "CurtainRiggers$Theatre" (356 : Nat) "*") ∈ lw_tbl := lw_at lw_m6 35 rfl
theorem q1304 : (Jvm.Cond.stringRef "CurtainRiggers$Theatre" (358 : Nat) "no cues") ∈ lw_tbl := lw_at lw_m6 36 rfl
theorem q1305 : (Jvm.Cond.methodLink "CurtainRiggers$Theatre" (347 : Nat) ({ cls := "java/lang/StringBuilder", name := "toString", desc := "()Ljava/lang/String;" } : Jvm.MethodName)) ∈ lw_all := lw_g (lw_at lw_m6 37 rfl) rfl
theorem q1312 : (Jvm.Cond.instanceMethod ({ cls := "CurtainRiggers$Theatre", name := "sum", desc := "(I)I" } : Jvm.MethodName)) ∈ lw_all := lw_g (lw_at lw_m6 44 rfl) rfl
theorem q1313 : (Jvm.Cond.selects "CurtainRiggers$Theatre" ({ cls := "CurtainRiggers$Theatre", name := "sum", desc := "(I)I" } : Jvm.MethodName) ({ cls := "CurtainRiggers$Theatre", name := "sum", desc := "(I)I" } : Jvm.MethodName)) ∈ lw_all := lw_g (lw_at lw_m6 45 rfl) rfl
theorem q1314 : (Jvm.Cond.code ({ cls := "CurtainRiggers$Theatre", name := "sum", desc := "(I)I" } : Jvm.MethodName) prog_18_method_6_code (2 : Nat) (Option.some Jvm.ClassFile.FieldType.int)) ∈ lw_all := lw_g (lw_at lw_m6 46 rfl) rfl
theorem q1315 : (Jvm.Cond.classLink "CurtainRiggers$Theatre" (78 : Nat) "CurtainRiggers$BarMeasure") ∈ lw_all := lw_g (lw_at lw_m6 47 rfl) rfl
theorem q1317 : (Jvm.Cond.methodLink "CurtainRiggers$Theatre" (80 : Nat) ({ cls := "CurtainRiggers$BarMeasure", name := "<init>", desc := "(I)V" } : Jvm.MethodName)) ∈ lw_all := lw_g (lw_at lw_m6 49 rfl) rfl
theorem q1448 : (Jvm.Cond.instanceMethod ({ cls := "CurtainRiggers$Theatre", name := "hang", desc := "(II)I" } : Jvm.MethodName)) ∈ lw_all := lw_g (lw_at lw_m6 180 rfl) rfl
theorem q1449 : (Jvm.Cond.selects "CurtainRiggers$Theatre" ({ cls := "CurtainRiggers$Theatre", name := "hang", desc := "(II)I" } : Jvm.MethodName) ({ cls := "CurtainRiggers$Theatre", name := "hang", desc := "(II)I" } : Jvm.MethodName)) ∈ lw_all := lw_g (lw_at lw_m6 181 rfl) rfl
theorem q1450 : (Jvm.Cond.code ({ cls := "CurtainRiggers$Theatre", name := "hang", desc := "(II)I" } : Jvm.MethodName) prog_18_method_11_code (5 : Nat) (Option.some Jvm.ClassFile.FieldType.int)) ∈ lw_all := lw_g (lw_at lw_m6 182 rfl) rfl
theorem q1451 : (Jvm.Cond.methodLink "CurtainRiggers$Theatre" (145 : Nat) ({ cls := "CurtainRiggers$Theatre", name := "curtain", desc := "(I)LCurtainRiggers$Curtain;" } : Jvm.MethodName)) ∈ lw_all := lw_g (lw_at lw_m6 183 rfl) rfl
theorem q1452 : (Jvm.Cond.instanceMethod ({ cls := "CurtainRiggers$Theatre", name := "curtain", desc := "(I)LCurtainRiggers$Curtain;" } : Jvm.MethodName)) ∈ lw_all := lw_g (lw_at lw_m6 184 rfl) rfl
theorem q1453 : (Jvm.Cond.selects "CurtainRiggers$Theatre" ({ cls := "CurtainRiggers$Theatre", name := "curtain", desc := "(I)LCurtainRiggers$Curtain;" } : Jvm.MethodName) ({ cls := "CurtainRiggers$Theatre", name := "curtain", desc := "(I)LCurtainRiggers$Curtain;" } : Jvm.MethodName)) ∈ lw_all := lw_g (lw_at lw_m6 185 rfl) rfl
theorem q1454 : (Jvm.Cond.code ({ cls := "CurtainRiggers$Theatre", name := "curtain", desc := "(I)LCurtainRiggers$Curtain;" } : Jvm.MethodName) prog_18_method_4_code (2 : Nat) (Option.some (Jvm.ClassFile.FieldType.object "CurtainRiggers$Curtain"))) ∈ lw_all := lw_g (lw_at lw_m6 186 rfl) rfl
theorem q1455 : (Jvm.Cond.methodLink "CurtainRiggers$Theatre" (66 : Nat) ({ cls := "CurtainRiggers$Numbered", name := "checked", desc := "(LCurtainRiggers$Row;I)LCurtainRiggers$Numbered;" } : Jvm.MethodName)) ∈ lw_all := lw_g (lw_at lw_m6 187 rfl) rfl
theorem q1471 : (Jvm.Cond.classLink "CurtainRiggers$Theatre" (74 : Nat) "CurtainRiggers$Curtain") ∈ lw_all := lw_g (lw_at lw_m6 203 rfl) rfl
theorem q1472 : (Jvm.Cond.methodLink "CurtainRiggers$Theatre" (97 : Nat) ({ cls := "CurtainRiggers$Theatre", name := "bar", desc := "(I)LCurtainRiggers$Bar;" } : Jvm.MethodName)) ∈ lw_all := lw_g (lw_at lw_m6 204 rfl) rfl
theorem q1473 : (Jvm.Cond.instanceMethod ({ cls := "CurtainRiggers$Theatre", name := "bar", desc := "(I)LCurtainRiggers$Bar;" } : Jvm.MethodName)) ∈ lw_all := lw_g (lw_at lw_m6 205 rfl) rfl
theorem q1474 : (Jvm.Cond.selects "CurtainRiggers$Theatre" ({ cls := "CurtainRiggers$Theatre", name := "bar", desc := "(I)LCurtainRiggers$Bar;" } : Jvm.MethodName) ({ cls := "CurtainRiggers$Theatre", name := "bar", desc := "(I)LCurtainRiggers$Bar;" } : Jvm.MethodName)) ∈ lw_all := lw_g (lw_at lw_m6 206 rfl) rfl
theorem q1475 : (Jvm.Cond.code ({ cls := "CurtainRiggers$Theatre", name := "bar", desc := "(I)LCurtainRiggers$Bar;" } : Jvm.MethodName) prog_18_method_3_code (2 : Nat) (Option.some (Jvm.ClassFile.FieldType.object "CurtainRiggers$Bar"))) ∈ lw_all := lw_g (lw_at lw_m6 207 rfl) rfl
theorem q1476 : (Jvm.Cond.methodLink "CurtainRiggers$Theatre" (151 : Nat) ({ cls := "CurtainRiggers$Bar", name := "checkLow", desc := "()V" } : Jvm.MethodName)) ∈ lw_all := lw_g (lw_at lw_m6 208 rfl) rfl
theorem q1481 : (Jvm.Cond.methodLink "CurtainRiggers$Theatre" (154 : Nat) ({ cls := "CurtainRiggers$Bar", name := "carries", desc := "(LCurtainRiggers$Curtain;I)V" } : Jvm.MethodName)) ∈ lw_all := lw_g (lw_at lw_m6 213 rfl) rfl
theorem q1486 : (Jvm.Cond.instanceMethod ({ cls := "CurtainRiggers$Theatre", name := "drop", desc := "(I)I" } : Jvm.MethodName)) ∈ lw_all := lw_g (lw_at lw_m6 218 rfl) rfl
theorem q1487 : (Jvm.Cond.selects "CurtainRiggers$Theatre" ({ cls := "CurtainRiggers$Theatre", name := "drop", desc := "(I)I" } : Jvm.MethodName) ({ cls := "CurtainRiggers$Theatre", name := "drop", desc := "(I)I" } : Jvm.MethodName)) ∈ lw_all := lw_g (lw_at lw_m6 219 rfl) rfl
theorem q1488 : (Jvm.Cond.code ({ cls := "CurtainRiggers$Theatre", name := "drop", desc := "(I)I" } : Jvm.MethodName) prog_18_method_12_code (4 : Nat) (Option.some Jvm.ClassFile.FieldType.int)) ∈ lw_all := lw_g (lw_at lw_m6 220 rfl) rfl
theorem q1490 : (Jvm.Cond.instanceMethod ({ cls := "CurtainRiggers$Theatre", name := "addWeights", desc := "(II)I" } : Jvm.MethodName)) ∈ lw_all := lw_g (lw_at lw_m6 222 rfl) rfl
theorem q1491 : (Jvm.Cond.selects "CurtainRiggers$Theatre" ({ cls := "CurtainRiggers$Theatre", name := "addWeights", desc := "(II)I" } : Jvm.MethodName) ({ cls := "CurtainRiggers$Theatre", name := "addWeights", desc := "(II)I" } : Jvm.MethodName)) ∈ lw_all := lw_g (lw_at lw_m6 223 rfl) rfl
theorem q1492 : (Jvm.Cond.code ({ cls := "CurtainRiggers$Theatre", name := "addWeights", desc := "(II)I" } : Jvm.MethodName) prog_18_method_13_code (4 : Nat) (Option.some Jvm.ClassFile.FieldType.int)) ∈ lw_all := lw_g (lw_at lw_m6 224 rfl) rfl
theorem q1493 : (Jvm.Cond.constantLong "CurtainRiggers$Theatre" (168 : Nat) (-20 : Int64)) ∈ lw_all := lw_g (lw_at lw_m6 225 rfl) rfl
theorem q1494 : (Jvm.Cond.constantLong "CurtainRiggers$Theatre" (170 : Nat) (20 : Int64)) ∈ lw_all := lw_g (lw_at lw_m6 226 rfl) rfl
theorem q1495 : (Jvm.Cond.methodLinkNest "CurtainRiggers$Theatre" (89 : Nat) ({ cls := "CurtainRiggers", name := "inRange", desc := "(JJJ)Z" } : Jvm.MethodName) "CurtainRiggers") ∈ lw_tbl := lw_at lw_m6 227 rfl
theorem q1496 : (Jvm.Cond.methodLinkNest "CurtainRiggers$Theatre" (93 : Nat) ({ cls := "CurtainRiggers", name := "checkArgument", desc := "(Z)V" } : Jvm.MethodName) "CurtainRiggers") ∈ lw_tbl := lw_at lw_m6 228 rfl
theorem q1505 : (Jvm.Cond.instanceMethod ({ cls := "CurtainRiggers$Theatre", name := "fly", desc := "(II)I" } : Jvm.MethodName)) ∈ lw_all := lw_g (lw_at lw_m6 237 rfl) rfl
theorem q1506 : (Jvm.Cond.selects "CurtainRiggers$Theatre" ({ cls := "CurtainRiggers$Theatre", name := "fly", desc := "(II)I" } : Jvm.MethodName) ({ cls := "CurtainRiggers$Theatre", name := "fly", desc := "(II)I" } : Jvm.MethodName)) ∈ lw_all := lw_g (lw_at lw_m6 238 rfl) rfl
theorem q1507 : (Jvm.Cond.code ({ cls := "CurtainRiggers$Theatre", name := "fly", desc := "(II)I" } : Jvm.MethodName) prog_18_method_28_code (4 : Nat) (Option.some Jvm.ClassFile.FieldType.int)) ∈ lw_all := lw_g (lw_at lw_m6 239 rfl) rfl
theorem q1508 : (Jvm.Cond.methodLinkNest "CurtainRiggers$Theatre" (270 : Nat) ({ cls := "CurtainRiggers", name := "checkHeight", desc := "(I)V" } : Jvm.MethodName) "CurtainRiggers") ∈ lw_tbl := lw_at lw_m7 0 rfl
theorem q1516 : (Jvm.Cond.instanceMethod ({ cls := "CurtainRiggers$Theatre", name := "setDoor", desc := "(IZ)I" } : Jvm.MethodName)) ∈ lw_all := lw_g (lw_at lw_m7 8 rfl) rfl
theorem q1517 : (Jvm.Cond.selects "CurtainRiggers$Theatre" ({ cls := "CurtainRiggers$Theatre", name := "setDoor", desc := "(IZ)I" } : Jvm.MethodName) ({ cls := "CurtainRiggers$Theatre", name := "setDoor", desc := "(IZ)I" } : Jvm.MethodName)) ∈ lw_all := lw_g (lw_at lw_m7 9 rfl) rfl
theorem q1518 : (Jvm.Cond.code ({ cls := "CurtainRiggers$Theatre", name := "setDoor", desc := "(IZ)I" } : Jvm.MethodName) prog_18_method_22_code (3 : Nat) (Option.some Jvm.ClassFile.FieldType.int)) ∈ lw_all := lw_g (lw_at lw_m7 10 rfl) rfl
theorem q1519 : (Jvm.Cond.constantLong "CurtainRiggers$Theatre" (238 : Nat) (3 : Int64)) ∈ lw_all := lw_g (lw_at lw_m7 11 rfl) rfl
theorem q1520 : (Jvm.Cond.methodLinkNest "CurtainRiggers$Theatre" (240 : Nat) ({ cls := "CurtainRiggers", name := "checkIndex", desc := "(Z)V" } : Jvm.MethodName) "CurtainRiggers") ∈ lw_tbl := lw_at lw_m7 12 rfl
theorem q1522 : (Jvm.Cond.instanceMethod ({ cls := "CurtainRiggers$Theatre", name := "age", desc := "(I)I" } : Jvm.MethodName)) ∈ lw_all := lw_g (lw_at lw_m7 14 rfl) rfl
theorem q1523 : (Jvm.Cond.selects "CurtainRiggers$Theatre" ({ cls := "CurtainRiggers$Theatre", name := "age", desc := "(I)I" } : Jvm.MethodName) ({ cls := "CurtainRiggers$Theatre", name := "age", desc := "(I)I" } : Jvm.MethodName)) ∈ lw_all := lw_g (lw_at lw_m7 15 rfl) rfl
theorem q1524 : (Jvm.Cond.code ({ cls := "CurtainRiggers$Theatre", name := "age", desc := "(I)I" } : Jvm.MethodName) prog_18_method_9_code (5 : Nat) (Option.some Jvm.ClassFile.FieldType.int)) ∈ lw_all := lw_g (lw_at lw_m7 16 rfl) rfl
theorem q1525 : (Jvm.Cond.constantLong "CurtainRiggers$Theatre" (108 : Nat) (9 : Int64)) ∈ lw_all := lw_g (lw_at lw_m7 17 rfl) rfl
theorem q1527 : (Jvm.Cond.instanceMethod ({ cls := "CurtainRiggers$Theatre", name := "setTold", desc := "(I)I" } : Jvm.MethodName)) ∈ lw_all := lw_g (lw_at lw_m7 19 rfl) rfl
theorem q1528 : (Jvm.Cond.selects "CurtainRiggers$Theatre" ({ cls := "CurtainRiggers$Theatre", name := "setTold", desc := "(I)I" } : Jvm.MethodName) ({ cls := "CurtainRiggers$Theatre", name := "setTold", desc := "(I)I" } : Jvm.MethodName)) ∈ lw_all := lw_g (lw_at lw_m7 20 rfl) rfl
theorem q1529 : (Jvm.Cond.code ({ cls := "CurtainRiggers$Theatre", name := "setTold", desc := "(I)I" } : Jvm.MethodName) prog_18_method_7_code (3 : Nat) (Option.some Jvm.ClassFile.FieldType.int)) ∈ lw_all := lw_g (lw_at lw_m7 21 rfl) rfl
theorem q1530 : (Jvm.Cond.constantLong "CurtainRiggers$Theatre" (87 : Nat) (40 : Int64)) ∈ lw_all := lw_g (lw_at lw_m7 22 rfl) rfl
theorem q1561 : (Jvm.Cond.instanceMethod ({ cls := "CurtainRiggers$Theatre", name := "renew", desc := "(I)I" } : Jvm.MethodName)) ∈ lw_all := lw_g (lw_at lw_m7 53 rfl) rfl
theorem q1562 : (Jvm.Cond.selects "CurtainRiggers$Theatre" ({ cls := "CurtainRiggers$Theatre", name := "renew", desc := "(I)I" } : Jvm.MethodName) ({ cls := "CurtainRiggers$Theatre", name := "renew", desc := "(I)I" } : Jvm.MethodName)) ∈ lw_all := lw_g (lw_at lw_m7 54 rfl) rfl
theorem q1563 : (Jvm.Cond.code ({ cls := "CurtainRiggers$Theatre", name := "renew", desc := "(I)I" } : Jvm.MethodName) prog_18_method_8_code (4 : Nat) (Option.some Jvm.ClassFile.FieldType.int)) ∈ lw_all := lw_g (lw_at lw_m7 55 rfl) rfl
theorem q1565 : (Jvm.Cond.instanceMethod ({ cls := "CurtainRiggers$Theatre", name := "addCurtain", desc := "(I)I" } : Jvm.MethodName)) ∈ lw_all := lw_g (lw_at lw_m7 57 rfl) rfl
theorem q1566 : (Jvm.Cond.selects "CurtainRiggers$Theatre" ({ cls := "CurtainRiggers$Theatre", name := "addCurtain", desc := "(I)I" } : Jvm.MethodName) ({ cls := "CurtainRiggers$Theatre", name := "addCurtain", desc := "(I)I" } : Jvm.MethodName)) ∈ lw_all := lw_g (lw_at lw_m7 58 rfl) rfl
theorem q1567 : (Jvm.Cond.code ({ cls := "CurtainRiggers$Theatre", name := "addCurtain", desc := "(I)I" } : Jvm.MethodName) prog_18_method_10_code (2 : Nat) (Option.some Jvm.ClassFile.FieldType.int)) ∈ lw_all := lw_g (lw_at lw_m7 59 rfl) rfl
theorem q1568 : (Jvm.Cond.constantLong "CurtainRiggers$Theatre" (131 : Nat) (5 : Int64)) ∈ lw_all := lw_g (lw_at lw_m7 60 rfl) rfl
theorem q1569 : (Jvm.Cond.constantLong "CurtainRiggers$Theatre" (133 : Nat) (90 : Int64)) ∈ lw_all := lw_g (lw_at lw_m7 61 rfl) rfl
theorem q1570 : (Jvm.Cond.methodLink "CurtainRiggers$Theatre" (138 : Nat) ({ cls := "CurtainRiggers$Curtain", name := "<init>", desc := "(II)V" } : Jvm.MethodName)) ∈ lw_all := lw_g (lw_at lw_m7 62 rfl) rfl
theorem q1571 : (Jvm.Cond.methodLink "CurtainRiggers$Theatre" (141 : Nat) ({ cls := "CurtainRiggers$Row", name := "add", desc := "(LCurtainRiggers$Numbered;)I" } : Jvm.MethodName)) ∈ lw_all := lw_g (lw_at lw_m7 63 rfl) rfl
theorem q1573 : (Jvm.Cond.instanceMethod ({ cls := "CurtainRiggers$Theatre", name := "addHand", desc := "(II)I" } : Jvm.MethodName)) ∈ lw_all := lw_g (lw_at lw_m7 65 rfl) rfl
theorem q1574 : (Jvm.Cond.selects "CurtainRiggers$Theatre" ({ cls := "CurtainRiggers$Theatre", name := "addHand", desc := "(II)I" } : Jvm.MethodName) ({ cls := "CurtainRiggers$Theatre", name := "addHand", desc := "(II)I" } : Jvm.MethodName)) ∈ lw_all := lw_g (lw_at lw_m7 66 rfl) rfl
theorem q1575 : (Jvm.Cond.code ({ cls := "CurtainRiggers$Theatre", name := "addHand", desc := "(II)I" } : Jvm.MethodName) prog_18_method_18_code (3 : Nat) (Option.some Jvm.ClassFile.FieldType.int)) ∈ lw_all := lw_g (lw_at lw_m7 67 rfl) rfl
theorem q1576 : (Jvm.Cond.methodLinkNest "CurtainRiggers$Theatre" (214 : Nat) ({ cls := "CurtainRiggers", name := "checkFloor", desc := "(I)V" } : Jvm.MethodName) "CurtainRiggers") ∈ lw_tbl := lw_at lw_m7 68 rfl
theorem q1580 : (Jvm.Cond.constantLong "CurtainRiggers$Theatre" (217 : Nat) (30 : Int64)) ∈ lw_all := lw_g (lw_at lw_m7 72 rfl) rfl
theorem q1581 : (Jvm.Cond.classLink "CurtainRiggers$Theatre" (76 : Nat) "CurtainRiggers$Hand") ∈ lw_all := lw_g (lw_at lw_m7 73 rfl) rfl
theorem q1582 : (Jvm.Cond.methodLink "CurtainRiggers$Theatre" (219 : Nat) ({ cls := "CurtainRiggers$Hand", name := "<init>", desc := "(III)V" } : Jvm.MethodName)) ∈ lw_all := lw_g (lw_at lw_m7 74 rfl) rfl
theorem q1584 : (Jvm.Cond.instanceMethod ({ cls := "CurtainRiggers$Theatre", name := "moveHand", desc := "(II)I" } : Jvm.MethodName)) ∈ lw_all := lw_g (lw_at lw_m7 76 rfl) rfl
theorem q1585 : (Jvm.Cond.selects "CurtainRiggers$Theatre" ({ cls := "CurtainRiggers$Theatre", name := "moveHand", desc := "(II)I" } : Jvm.MethodName) ({ cls := "CurtainRiggers$Theatre", name := "moveHand", desc := "(II)I" } : Jvm.MethodName)) ∈ lw_all := lw_g (lw_at lw_m7 77 rfl) rfl
theorem q1586 : (Jvm.Cond.code ({ cls := "CurtainRiggers$Theatre", name := "moveHand", desc := "(II)I" } : Jvm.MethodName) prog_18_method_19_code (4 : Nat) (Option.some Jvm.ClassFile.FieldType.int)) ∈ lw_all := lw_g (lw_at lw_m7 78 rfl) rfl
theorem q1587 : (Jvm.Cond.methodLink "CurtainRiggers$Theatre" (222 : Nat) ({ cls := "CurtainRiggers$Theatre", name := "hand", desc := "(I)LCurtainRiggers$Hand;" } : Jvm.MethodName)) ∈ lw_all := lw_g (lw_at lw_m7 79 rfl) rfl
theorem q1588 : (Jvm.Cond.instanceMethod ({ cls := "CurtainRiggers$Theatre", name := "hand", desc := "(I)LCurtainRiggers$Hand;" } : Jvm.MethodName)) ∈ lw_all := lw_g (lw_at lw_m7 80 rfl) rfl
theorem q1589 : (Jvm.Cond.selects "CurtainRiggers$Theatre" ({ cls := "CurtainRiggers$Theatre", name := "hand", desc := "(I)LCurtainRiggers$Hand;" } : Jvm.MethodName) ({ cls := "CurtainRiggers$Theatre", name := "hand", desc := "(I)LCurtainRiggers$Hand;" } : Jvm.MethodName)) ∈ lw_all := lw_g (lw_at lw_m7 81 rfl) rfl
theorem q1590 : (Jvm.Cond.code ({ cls := "CurtainRiggers$Theatre", name := "hand", desc := "(I)LCurtainRiggers$Hand;" } : Jvm.MethodName) prog_18_method_5_code (2 : Nat) (Option.some (Jvm.ClassFile.FieldType.object "CurtainRiggers$Hand"))) ∈ lw_all := lw_g (lw_at lw_m7 82 rfl) rfl
theorem q1725 : (Jvm.Cond.instanceMethod ({ cls := "CurtainRiggers$Theatre", name := "curtainsOn", desc := "(I)Ljava/lang/Iterable;" } : Jvm.MethodName)) ∈ lw_all := lw_g (lw_at lw_m7 217 rfl) rfl
theorem q1726 : (Jvm.Cond.selects "CurtainRiggers$Theatre" ({ cls := "CurtainRiggers$Theatre", name := "curtainsOn", desc := "(I)Ljava/lang/Iterable;" } : Jvm.MethodName) ({ cls := "CurtainRiggers$Theatre", name := "curtainsOn", desc := "(I)Ljava/lang/Iterable;" } : Jvm.MethodName)) ∈ lw_all := lw_g (lw_at lw_m7 218 rfl) rfl
theorem q1727 : (Jvm.Cond.code ({ cls := "CurtainRiggers$Theatre", name := "curtainsOn", desc := "(I)Ljava/lang/Iterable;" } : Jvm.MethodName) prog_18_method_14_code (6 : Nat) (Option.some (Jvm.ClassFile.FieldType.object "java/lang/Iterable"))) ∈ lw_all := lw_g (lw_at lw_m7 219 rfl) rfl
theorem q1728 : (Jvm.Cond.methodLink "CurtainRiggers$Theatre" (178 : Nat) ({ cls := "java/util/ArrayList", name := "add", desc := "(Ljava/lang/Object;)Z" } : Jvm.MethodName)) ∈ lw_all := lw_g (lw_at lw_m7 220 rfl) rfl
theorem q1781 : (Jvm.Cond.instanceMethod ({ cls := "CurtainRiggers$Theatre", name := "bestBar", desc := "(LCurtainRiggers$Curtain;)LCurtainRiggers$Bar;" } : Jvm.MethodName)) ∈ lw_all := lw_g (lw_at lw_m8 33 rfl) rfl
theorem q1782 : (Jvm.Cond.selects "CurtainRiggers$Theatre" ({ cls := "CurtainRiggers$Theatre", name := "bestBar", desc := "(LCurtainRiggers$Curtain;)LCurtainRiggers$Bar;" } : Jvm.MethodName) ({ cls := "CurtainRiggers$Theatre", name := "bestBar", desc := "(LCurtainRiggers$Curtain;)LCurtainRiggers$Bar;" } : Jvm.MethodName)) ∈ lw_all := lw_g (lw_at lw_m8 34 rfl) rfl
theorem q1783 : (Jvm.Cond.code ({ cls := "CurtainRiggers$Theatre", name := "bestBar", desc := "(LCurtainRiggers$Curtain;)LCurtainRiggers$Bar;" } : Jvm.MethodName) prog_18_method_16_code (2 : Nat) (Option.some (Jvm.ClassFile.FieldType.object "CurtainRiggers$Bar"))) ∈ lw_all := lw_g (lw_at lw_m8 35 rfl) rfl
theorem q1784 : (Jvm.Cond.methodLink "CurtainRiggers$Theatre" (184 : Nat) ({ cls := "CurtainRiggers$Theatre", name := "low", desc := "()Ljava/util/ArrayList;" } : Jvm.MethodName)) ∈ lw_all := lw_g (lw_at lw_m8 36 rfl) rfl
theorem q1785 : (Jvm.Cond.privateMethod ({ cls := "CurtainRiggers$Theatre", name := "low", desc := "()Ljava/util/ArrayList;" } : Jvm.MethodName)) ∈ lw_tbl := lw_at lw_m8 37 rfl
theorem q1786 : (Jvm.Cond.instanceMethod ({ cls := "CurtainRiggers$Theatre", name := "low", desc := "()Ljava/util/ArrayList;" } : Jvm.MethodName)) ∈ lw_all := lw_g (lw_at lw_m8 38 rfl) rfl
theorem q1787 : (Jvm.Cond.code ({ cls := "CurtainRiggers$Theatre", name := "low", desc := "()Ljava/util/ArrayList;" } : Jvm.MethodName) prog_18_method_15_code (5 : Nat) (Option.some (Jvm.ClassFile.FieldType.object "java/util/ArrayList"))) ∈ lw_all := lw_g (lw_at lw_m8 39 rfl) rfl
theorem q1788 : (Jvm.Cond.classLink "CurtainRiggers$Theatre" (188 : Nat) "CurtainRiggers$ByBalance") ∈ lw_all := lw_g (lw_at lw_m8 40 rfl) rfl
theorem q1789 : (Jvm.Cond.methodLink "CurtainRiggers$Theatre" (190 : Nat) ({ cls := "CurtainRiggers$ByBalance", name := "<init>", desc := "(LCurtainRiggers$Curtain;)V" } : Jvm.MethodName)) ∈ lw_all := lw_g (lw_at lw_m8 41 rfl) rfl
theorem q1814 : (Jvm.Cond.instanceMethod ({ cls := "CurtainRiggers$Theatre", name := "bestAgain", desc := "(LCurtainRiggers$Curtain;)LCurtainRiggers$Bar;" } : Jvm.MethodName)) ∈ lw_all := lw_g (lw_at lw_m8 66 rfl) rfl
theorem q1815 : (Jvm.Cond.selects "CurtainRiggers$Theatre" ({ cls := "CurtainRiggers$Theatre", name := "bestAgain", desc := "(LCurtainRiggers$Curtain;)LCurtainRiggers$Bar;" } : Jvm.MethodName) ({ cls := "CurtainRiggers$Theatre", name := "bestAgain", desc := "(LCurtainRiggers$Curtain;)LCurtainRiggers$Bar;" } : Jvm.MethodName)) ∈ lw_all := lw_g (lw_at lw_m8 67 rfl) rfl
theorem q1816 : (Jvm.Cond.code ({ cls := "CurtainRiggers$Theatre", name := "bestAgain", desc := "(LCurtainRiggers$Curtain;)LCurtainRiggers$Bar;" } : Jvm.MethodName) prog_18_method_17_code (7 : Nat) (Option.some (Jvm.ClassFile.FieldType.object "CurtainRiggers$Bar"))) ∈ lw_all := lw_g (lw_at lw_m8 68 rfl) rfl
theorem q1817 : (Jvm.Cond.methodLink "CurtainRiggers$Theatre" (204 : Nat) ({ cls := "CurtainRiggers$ByBalance", name := "isAhead", desc := "(LCurtainRiggers$Bar;LCurtainRiggers$Bar;)Z" } : Jvm.MethodName)) ∈ lw_all := lw_g (lw_at lw_m8 69 rfl) rfl
theorem q1818 : (Jvm.Cond.methodLink "CurtainRiggers$Theatre" (211 : Nat) ({ cls := "java/util/ArrayList", name := "isEmpty", desc := "()Z" } : Jvm.MethodName)) ∈ lw_all := lw_g (lw_at lw_m8 70 rfl) rfl
theorem q1865 : (Jvm.Cond.instanceMethod ({ cls := "CurtainRiggers$Theatre", name := "noiseAgain", desc := "(LCurtainRiggers$Bar;I)I" } : Jvm.MethodName)) ∈ lw_all := lw_g (lw_at lw_m8 117 rfl) rfl
theorem q1866 : (Jvm.Cond.selects "CurtainRiggers$Theatre" ({ cls := "CurtainRiggers$Theatre", name := "noiseAgain", desc := "(LCurtainRiggers$Bar;I)I" } : Jvm.MethodName) ({ cls := "CurtainRiggers$Theatre", name := "noiseAgain", desc := "(LCurtainRiggers$Bar;I)I" } : Jvm.MethodName)) ∈ lw_all := lw_g (lw_at lw_m8 118 rfl) rfl
theorem q1867 : (Jvm.Cond.code ({ cls := "CurtainRiggers$Theatre", name := "noiseAgain", desc := "(LCurtainRiggers$Bar;I)I" } : Jvm.MethodName) prog_18_method_24_code (10 : Nat) (Option.some Jvm.ClassFile.FieldType.int)) ∈ lw_all := lw_g (lw_at lw_m8 119 rfl) rfl
theorem q1885 : (Jvm.Cond.instanceMethod ({ cls := "CurtainRiggers$Theatre", name := "wouldRefuse", desc := "(LCurtainRiggers$Bar;)I" } : Jvm.MethodName)) ∈ lw_all := lw_g (lw_at lw_m8 137 rfl) rfl
theorem q1886 : (Jvm.Cond.selects "CurtainRiggers$Theatre" ({ cls := "CurtainRiggers$Theatre", name := "wouldRefuse", desc := "(LCurtainRiggers$Bar;)I" } : Jvm.MethodName) ({ cls := "CurtainRiggers$Theatre", name := "wouldRefuse", desc := "(LCurtainRiggers$Bar;)I" } : Jvm.MethodName)) ∈ lw_all := lw_g (lw_at lw_m8 138 rfl) rfl
theorem q1887 : (Jvm.Cond.codeWith ({ cls := "CurtainRiggers$Theatre", name := "wouldRefuse", desc := "(LCurtainRiggers$Bar;)I" } : Jvm.MethodName) prog_18_method_26_code (3 : Nat) (Option.some Jvm.ClassFile.FieldType.int) [((0 : Nat), (6 : Nat), (7 : Nat), (103 : Nat))]) ∈ lw_all := lw_g (lw_at lw_m8 139 rfl) rfl
theorem q1902 : (Jvm.Cond.fieldLinkNest "CurtainRiggers$Theatre" (278 : Nat) "CurtainRiggers$Cue" "light" "I" "CurtainRiggers") ∈ lw_tbl := lw_at lw_m8 154 rfl
theorem q1905 : (Jvm.Cond.fieldLinkNest "CurtainRiggers$Theatre" (281 : Nat) "CurtainRiggers$Cue" "bar" "I" "CurtainRiggers") ∈ lw_tbl := lw_at lw_m8 157 rfl
theorem q1908 : (Jvm.Cond.fieldLinkNest "CurtainRiggers$Theatre" (291 : Nat) "CurtainRiggers$Cue" "height" "I" "CurtainRiggers") ∈ lw_tbl := lw_at lw_m8 160 rfl
theorem q1911 : (Jvm.Cond.fieldLinkNest "CurtainRiggers$Theatre" (284 : Nat) "CurtainRiggers$Cue" "hush" "I" "CurtainRiggers") ∈ lw_tbl := lw_at lw_m8 163 rfl
theorem q1922 : (Jvm.Cond.instanceMethod ({ cls := "CurtainRiggers$Theatre", name := "addCue", desc := "(LCurtainRiggers$Cue;)I" } : Jvm.MethodName)) ∈ lw_all := lw_g (lw_at lw_m8 174 rfl) rfl
theorem q1923 : (Jvm.Cond.selects "CurtainRiggers$Theatre" ({ cls := "CurtainRiggers$Theatre", name := "addCue", desc := "(LCurtainRiggers$Cue;)I" } : Jvm.MethodName) ({ cls := "CurtainRiggers$Theatre", name := "addCue", desc := "(LCurtainRiggers$Cue;)I" } : Jvm.MethodName)) ∈ lw_all := lw_g (lw_at lw_m8 175 rfl) rfl
theorem q1924 : (Jvm.Cond.code ({ cls := "CurtainRiggers$Theatre", name := "addCue", desc := "(LCurtainRiggers$Cue;)I" } : Jvm.MethodName) prog_18_method_30_code (3 : Nat) (Option.some Jvm.ClassFile.FieldType.int)) ∈ lw_all := lw_g (lw_at lw_m8 176 rfl) rfl
theorem q1925 : (Jvm.Cond.constantLong "CurtainRiggers$Theatre" (282 : Nat) (99 : Int64)) ∈ lw_all := lw_g (lw_at lw_m8 177 rfl) rfl
theorem q1926 : (Jvm.Cond.methodLink "CurtainRiggers$Theatre" (287 : Nat) ({ cls := "CurtainRiggers$Theatre", name := "cueWith", desc := "(I)LCurtainRiggers$Cue;" } : Jvm.MethodName)) ∈ lw_all := lw_g (lw_at lw_m8 178 rfl) rfl
theorem q1927 : (Jvm.Cond.privateMethod ({ cls := "CurtainRiggers$Theatre", name := "cueWith", desc := "(I)LCurtainRiggers$Cue;" } : Jvm.MethodName)) ∈ lw_tbl := lw_at lw_m8 179 rfl
theorem q1928 : (Jvm.Cond.instanceMethod ({ cls := "CurtainRiggers$Theatre", name := "cueWith", desc := "(I)LCurtainRiggers$Cue;" } : Jvm.MethodName)) ∈ lw_all := lw_g (lw_at lw_m8 180 rfl) rfl
theorem q1929 : (Jvm.Cond.code ({ cls := "CurtainRiggers$Theatre", name := "cueWith", desc := "(I)LCurtainRiggers$Cue;" } : Jvm.MethodName) prog_18_method_29_code (5 : Nat) (Option.some (Jvm.ClassFile.FieldType.object "CurtainRiggers$Cue"))) ∈ lw_all := lw_g (lw_at lw_m8 181 rfl) rfl
theorem q1963 : (Jvm.Cond.instanceMethod ({ cls := "CurtainRiggers$Theatre", name := "told", desc := "(LCurtainRiggers$Bar;)Ljava/lang/String;" } : Jvm.MethodName)) ∈ lw_all := lw_g (lw_at lw_m8 215 rfl) rfl
theorem q1964 : (Jvm.Cond.selects "CurtainRiggers$Theatre" ({ cls := "CurtainRiggers$Theatre", name := "told", desc := "(LCurtainRiggers$Bar;)Ljava/lang/String;" } : Jvm.MethodName) ({ cls := "CurtainRiggers$Theatre", name := "told", desc := "(LCurtainRiggers$Bar;)Ljava/lang/String;" } : Jvm.MethodName)) ∈ lw_all := lw_g (lw_at lw_m8 216 rfl) rfl
theorem q1965 : (Jvm.Cond.code ({ cls := "CurtainRiggers$Theatre", name := "told", desc := "(LCurtainRiggers$Bar;)Ljava/lang/String;" } : Jvm.MethodName) prog_18_method_36_code (6 : Nat) (Option.some (Jvm.ClassFile.FieldType.object "java/lang/String"))) ∈ lw_all := lw_g (lw_at lw_m8 217 rfl) rfl
theorem q1966 : (Jvm.Cond.stringRef "CurtainRiggers$Theatre" (319 : Nat) "m ") ∈ lw_tbl := lw_at lw_m8 218 rfl
theorem q1967 : (Jvm.Cond.stringRef "CurtainRiggers$Theatre" (327 : Nat) "kg") ∈ lw_tbl := lw_at lw_m8 219 rfl
theorem q1968 : (Jvm.Cond.methodLink "CurtainRiggers$Theatre" (329 : Nat) ({ cls := "CurtainRiggers$Theatre", name := "curtainsOn", desc := "(I)Ljava/lang/Iterable;" } : Jvm.MethodName)) ∈ lw_all := lw_g (lw_at lw_m8 220 rfl) rfl
theorem q1969 : (Jvm.Cond.interfaceEntry "CurtainRiggers$Theatre" (333 : Nat)) ∈ lw_tbl := lw_at lw_m8 221 rfl
theorem q1970 : (Jvm.Cond.methodLink "CurtainRiggers$Theatre" (333 : Nat) ({ cls := "java/lang/Iterable", name := "iterator", desc := "()Ljava/util/Iterator;" } : Jvm.MethodName)) ∈ lw_all := lw_g (lw_at lw_m8 222 rfl) rfl
theorem q1971 : (Jvm.Cond.stringRef "CurtainRiggers$Theatre" (336 : Nat) " c") ∈ lw_tbl := lw_at lw_m8 223 rfl
theorem q1972 : (Jvm.Cond.methodLink "CurtainRiggers$Theatre" (339 : Nat) ({ cls := "CurtainRiggers$Theatre", name := "wouldRefuse", desc := "(LCurtainRiggers$Bar;)I" } : Jvm.MethodName)) ∈ lw_all := lw_g (lw_at lw_m8 224 rfl) rfl
theorem q1973 : (Jvm.Cond.stringRef "CurtainRiggers$Theatre" (343 : Nat) " !") ∈ lw_tbl := lw_at lw_m8 225 rfl
theorem q2012 : (Jvm.Cond.instanceMethod ({ cls := "CurtainRiggers$Theatre", name := "outOfBalance", desc := "()I" } : Jvm.MethodName)) ∈ lw_all := lw_g (lw_at lw_m9 24 rfl) rfl
theorem q2013 : (Jvm.Cond.selects "CurtainRiggers$Theatre" ({ cls := "CurtainRiggers$Theatre", name := "outOfBalance", desc := "()I" } : Jvm.MethodName) ({ cls := "CurtainRiggers$Theatre", name := "outOfBalance", desc := "()I" } : Jvm.MethodName)) ∈ lw_all := lw_g (lw_at lw_m9 25 rfl) rfl
theorem q2014 : (Jvm.Cond.code ({ cls := "CurtainRiggers$Theatre", name := "outOfBalance", desc := "()I" } : Jvm.MethodName) prog_18_method_35_code (4 : Nat) (Option.some Jvm.ClassFile.FieldType.int)) ∈ lw_all := lw_g (lw_at lw_m9 26 rfl) rfl
theorem q2707 : (Jvm.Cond.castable "CurtainRiggers$Theatre" "java/lang/Object") ∈ lw_tbl := lw_at lw_m11 239 rfl
theorem in_X2 : ∀ w ∈ wsX20, w ∈ lw_all := lw_in wsX20 [198, 200, 202, 204, 206, 208, 210, 212, 214, 216, 218, 220] (by decide +kernel) (by decide +kernel)

/-! CurtainRiggers$SyntaxException -/
set_option maxRecDepth 100000
def RX20 : String := "CurtainRiggers$SyntaxException"
def TX20 : u_T := fun k => match k with
  | 0 => ("java/lang/Throwable", "cause", "Ljava/lang/Throwable;", false)
  | 1 => ("java/lang/Throwable", "stackTrace", "[Ljava/lang/StackTraceElement;", false)
  | 2 => ("java/lang/Throwable", "suppressedExceptions", "Ljava/util/List;", false)
  | 3 => ("java/lang/Throwable", "detailMessage", "Ljava/lang/String;", false)
  | 4 => ("java/lang/Throwable", "backtrace", "Ljava/lang/Object;", false)
  | 5 => ("java/lang/Throwable", "depth", "I", false)
  | _ => ("CurtainRiggers$SyntaxException", "position", "I", true)
def tyX20 : Nat → FieldType := fun k => match k with
  | 0 => .object "java/lang/Throwable"
  | 1 => .array (.object "java/lang/StackTraceElement")
  | 2 => .object "java/util/List"
  | 3 => .object "java/lang/String"
  | 4 => .object "java/lang/Object"
  | 5 => .int
  | _ => .int
abbrev wsX200 : List Cond := u_ws RX20 TX20 7
theorem nmX20 : ∀ a, a < 7 → ∀ b, b < 7 → a ≠ b → (TX20 a).2.1 ≠ (TX20 b).2.1 := by decide +kernel
theorem tyX20_ok : ∀ k, k < 7 → parseFieldDescriptor (TX20 k).2.2.1 = some (tyX20 k) := by decide +kernel
abbrev cX20_init : ByteArray := prog_17_method_1_code
def yX20_init : MethodName := ⟨RX20, "<init>", "(I)V"⟩
def dkwX20_init_0 : List UInt8 := [42, 1, 1, 3, 3, 183, 0, 1, 42, 27, 181, 0, 7, 177]
abbrev dktX20_init_0 : List UInt8 := dkwX20_init_0 ++ []
theorem dksX20_init_0 : cX20_init.data.toList.drop 0 = dktX20_init_0 := by decide +kernel
theorem dX20_init_0 : decode cX20_init 0 = .ok (.aload_n 0, 1) := dk_42 (dk_at dksX20_init_0 0 rfl rfl)
theorem dX20_init_1 : decode cX20_init 1 = .ok (.aconst_null, 1) := dk_1 (dk_at dksX20_init_0 1 rfl rfl)
theorem dX20_init_2 : decode cX20_init 2 = .ok (.aconst_null, 1) := dk_1 (dk_at dksX20_init_0 2 rfl rfl)
theorem dX20_init_3 : decode cX20_init 3 = .ok (.iconst 0, 1) := dk_3 (dk_at dksX20_init_0 3 rfl rfl)
theorem dX20_init_4 : decode cX20_init 4 = .ok (.iconst 0, 1) := dk_3 (dk_at dksX20_init_0 4 rfl rfl)
theorem dX20_init_5 : decode cX20_init 5 = .ok (.invokespecial 1, 3) := dk_183 0 1 (dk_at dksX20_init_0 5 rfl rfl)
theorem dX20_init_8 : decode cX20_init 8 = .ok (.aload_n 0, 1) := dk_42 (dk_at dksX20_init_0 8 rfl rfl)
theorem dX20_init_9 : decode cX20_init 9 = .ok (.iload_n 1, 1) := dk_27 (dk_at dksX20_init_0 9 rfl rfl)
theorem dX20_init_10 : decode cX20_init 10 = .ok (.putfield 7, 3) := dk_181 0 7 (dk_at dksX20_init_0 10 rfl rfl)
theorem dX20_init_13 : decode cX20_init 13 = .ok (.return_, 1) := dk_177 (dk_at dksX20_init_0 13 rfl rfl)
theorem q117 : (Jvm.Cond.initialized "CurtainRiggers$SyntaxException") ∈ lw_all := lw_g (lw_at lw_m1 49 rfl) rfl
theorem q455 : (Jvm.Cond.selects "CurtainRiggers$SyntaxException" ({ cls := "java/lang/Throwable", name := "fillInStackTrace", desc := "()Ljava/lang/Throwable;" } : Jvm.MethodName) ({ cls := "java/lang/Throwable", name := "fillInStackTrace", desc := "()Ljava/lang/Throwable;" } : Jvm.MethodName)) ∈ lw_all := lw_g (lw_at lw_m2 147 rfl) rfl
theorem q689 : (Jvm.Cond.selects "CurtainRiggers$SyntaxException" ({ cls := "java/lang/Object", name := "getClass", desc := "()Ljava/lang/Class;" } : Jvm.MethodName) ({ cls := "java/lang/Object", name := "getClass", desc := "()Ljava/lang/Class;" } : Jvm.MethodName)) ∈ lw_all := lw_g (lw_at lw_m3 141 rfl) rfl
theorem q2150 : (Jvm.Cond.instantiable "CurtainRiggers$SyntaxException" (7 : Nat)) ∈ lw_all := lw_g (lw_at lw_m9 162 rfl) rfl
theorem q2151 : (Jvm.Cond.castable "CurtainRiggers$SyntaxException" "CurtainRiggers$SyntaxException") ∈ lw_tbl := lw_at lw_m9 163 rfl
theorem q2152 : (Jvm.Cond.selects "CurtainRiggers$SyntaxException" ({ cls := "java/lang/Throwable", name := "fillInStackTrace", desc := "(I)Ljava/lang/Throwable;" } : Jvm.MethodName) ({ cls := "java/lang/Throwable", name := "fillInStackTrace", desc := "(I)Ljava/lang/Throwable;" } : Jvm.MethodName)) ∈ lw_all := lw_g (lw_at lw_m9 164 rfl) rfl
theorem q2153 : (Jvm.Cond.lays "CurtainRiggers$SyntaxException" "java/lang/Throwable" "cause" "Ljava/lang/Throwable;") ∈ lw_all := lw_g (lw_at lw_m9 165 rfl) rfl
theorem q2154 : (Jvm.Cond.lays "CurtainRiggers$SyntaxException" "java/lang/Throwable" "stackTrace" "[Ljava/lang/StackTraceElement;") ∈ lw_all := lw_g (lw_at lw_m9 166 rfl) rfl
theorem q2155 : (Jvm.Cond.lays "CurtainRiggers$SyntaxException" "java/lang/Throwable" "suppressedExceptions" "Ljava/util/List;") ∈ lw_all := lw_g (lw_at lw_m9 167 rfl) rfl
theorem q2156 : (Jvm.Cond.lays "CurtainRiggers$SyntaxException" "java/lang/Throwable" "detailMessage" "Ljava/lang/String;") ∈ lw_all := lw_g (lw_at lw_m9 168 rfl) rfl
theorem q2157 : (Jvm.Cond.lays "CurtainRiggers$SyntaxException" "java/lang/Throwable" "backtrace" "Ljava/lang/Object;") ∈ lw_all := lw_g (lw_at lw_m9 169 rfl) rfl
theorem q2159 : (Jvm.Cond.instanceMethod ({ cls := "CurtainRiggers$SyntaxException", name := "<init>", desc := "(I)V" } : Jvm.MethodName)) ∈ lw_all := lw_g (lw_at lw_m9 171 rfl) rfl
theorem q2160 : (Jvm.Cond.code ({ cls := "CurtainRiggers$SyntaxException", name := "<init>", desc := "(I)V" } : Jvm.MethodName) prog_17_method_1_code (2 : Nat) (Option.none : Option Jvm.ClassFile.FieldType)) ∈ lw_all := lw_g (lw_at lw_m9 172 rfl) rfl
theorem q2161 : (Jvm.Cond.methodLink "CurtainRiggers$SyntaxException" (1 : Nat) ({ cls := "java/lang/Exception", name := "<init>", desc := "(Ljava/lang/String;Ljava/lang/Throwable;ZZ)V" } : Jvm.MethodName)) ∈ lw_all := lw_g (lw_at lw_m9 173 rfl) rfl
theorem q2162 : (Jvm.Cond.fieldLink "CurtainRiggers$SyntaxException" (7 : Nat) "CurtainRiggers$SyntaxException" "position" "I") ∈ lw_all := lw_g (lw_at lw_m9 174 rfl) rfl
theorem q2164 : (Jvm.Cond.laysFinal "CurtainRiggers$SyntaxException" "CurtainRiggers$SyntaxException" "position" "I") ∈ lw_all := lw_g (lw_at lw_m9 176 rfl) rfl
theorem q2165 : (Jvm.Cond.soleField "CurtainRiggers$SyntaxException" "position") ∈ lw_all := lw_g (lw_at lw_m9 177 rfl) rfl
theorem q2166 : (Jvm.Cond.lays "CurtainRiggers$SyntaxException" "java/lang/Throwable" "depth" "I") ∈ lw_all := lw_g (lw_at lw_m9 178 rfl) rfl
theorem q2167 : (Jvm.Cond.superclass "CurtainRiggers$SyntaxException" "java/lang/Exception") ∈ lw_all := lw_g (lw_at lw_m9 179 rfl) rfl
theorem q2735 : (Jvm.Cond.castable "CurtainRiggers$SyntaxException" "java/lang/Object") ∈ lw_tbl := lw_at lw_m12 27 rfl
theorem in_X20 : ∀ w ∈ wsX200, w ∈ lw_all := lw_in wsX200 [2153, 2154, 2155, 2156, 2157, 2166, 2164] (by decide +kernel) (by decide +kernel)

/-! CurtainRiggers$Row -/
set_option maxRecDepth 100000
def RX3 : String := "CurtainRiggers$Row"
def TX3 : u_T := fun k => match k with
  | 0 => ("CurtainRiggers$Row", "things", "Ljava/util/ArrayList;", true)
  | _ => ("CurtainRiggers$Row", "most", "I", true)
def tyX3 : Nat → FieldType := fun k => match k with
  | 0 => .object "java/util/ArrayList"
  | _ => .int
abbrev wsX30 : List Cond := u_ws RX3 TX3 2
theorem nmX3 : ∀ a, a < 2 → ∀ b, b < 2 → a ≠ b → (TX3 a).2.1 ≠ (TX3 b).2.1 := by decide +kernel
theorem tyX3_ok : ∀ k, k < 2 → parseFieldDescriptor (TX3 k).2.2.1 = some (tyX3 k) := by decide +kernel
abbrev cX3_init : ByteArray := prog_15_method_1_code
def yX3_init : MethodName := ⟨RX3, "<init>", "(I)V"⟩
def dkwX3_init_0 : List UInt8 := [42, 183, 0, 1, 42, 187, 0, 7, 89, 183, 0, 9, 181, 0, 10, 42, 27, 181, 0, 16, 177]
abbrev dktX3_init_0 : List UInt8 := dkwX3_init_0 ++ []
theorem dksX3_init_0 : cX3_init.data.toList.drop 0 = dktX3_init_0 := by decide +kernel
theorem dX3_init_0 : decode cX3_init 0 = .ok (.aload_n 0, 1) := dk_42 (dk_at dksX3_init_0 0 rfl rfl)
theorem dX3_init_1 : decode cX3_init 1 = .ok (.invokespecial 1, 3) := dk_183 0 1 (dk_at dksX3_init_0 1 rfl rfl)
theorem dX3_init_4 : decode cX3_init 4 = .ok (.aload_n 0, 1) := dk_42 (dk_at dksX3_init_0 4 rfl rfl)
theorem dX3_init_5 : decode cX3_init 5 = .ok (.new 7, 3) := dk_187 0 7 (dk_at dksX3_init_0 5 rfl rfl)
theorem dX3_init_8 : decode cX3_init 8 = .ok (.dup, 1) := dk_89 (dk_at dksX3_init_0 8 rfl rfl)
theorem dX3_init_9 : decode cX3_init 9 = .ok (.invokespecial 9, 3) := dk_183 0 9 (dk_at dksX3_init_0 9 rfl rfl)
theorem dX3_init_12 : decode cX3_init 12 = .ok (.putfield 10, 3) := dk_181 0 10 (dk_at dksX3_init_0 12 rfl rfl)
theorem dX3_init_15 : decode cX3_init 15 = .ok (.aload_n 0, 1) := dk_42 (dk_at dksX3_init_0 15 rfl rfl)
theorem dX3_init_16 : decode cX3_init 16 = .ok (.iload_n 1, 1) := dk_27 (dk_at dksX3_init_0 16 rfl rfl)
theorem dX3_init_17 : decode cX3_init 17 = .ok (.putfield 16, 3) := dk_181 0 16 (dk_at dksX3_init_0 17 rfl rfl)
theorem dX3_init_20 : decode cX3_init 20 = .ok (.return_, 1) := dk_177 (dk_at dksX3_init_0 20 rfl rfl)
abbrev cX3_size : ByteArray := prog_15_method_3_code
def yX3_size : MethodName := ⟨RX3, "size", "()I"⟩
def dkwX3_size_0 : List UInt8 := [42, 180, 0, 10, 182, 0, 47, 172]
abbrev dktX3_size_0 : List UInt8 := dkwX3_size_0 ++ []
theorem dksX3_size_0 : cX3_size.data.toList.drop 0 = dktX3_size_0 := by decide +kernel
theorem dX3_size_0 : decode cX3_size 0 = .ok (.aload_n 0, 1) := dk_42 (dk_at dksX3_size_0 0 rfl rfl)
theorem dX3_size_1 : decode cX3_size 1 = .ok (.getfield 10, 3) := dk_180 0 10 (dk_at dksX3_size_0 1 rfl rfl)
theorem dX3_size_4 : decode cX3_size 4 = .ok (.invokevirtual 47, 3) := dk_182 0 47 (dk_at dksX3_size_0 4 rfl rfl)
theorem dX3_size_7 : decode cX3_size 7 = .ok (.ireturn, 1) := dk_172 (dk_at dksX3_size_0 7 rfl rfl)
abbrev cX3_copy : ByteArray := prog_15_method_2_code
def yX3_copy : MethodName := ⟨RX3, "copy", "()LCurtainRiggers$Row;"⟩
def dkwX3_copy_2 : List UInt8 := [185, 0, 39, 1, 0, 182, 0, 43, 54, 4, 167, 255, 222, 43, 176]
abbrev dktX3_copy_2 : List UInt8 := dkwX3_copy_2 ++ []
def dkwX3_copy_1 : List UInt8 := [185, 0, 27, 1, 0, 153, 0, 31, 44, 185, 0, 33, 1, 0, 192, 0, 37, 78, 43, 180, 0, 10, 45]
abbrev dktX3_copy_1 : List UInt8 := dkwX3_copy_1 ++ dktX3_copy_2
def dkwX3_copy_0 : List UInt8 := [187, 0, 11, 89, 42, 180, 0, 16, 183, 0, 20, 76, 42, 180, 0, 10, 182, 0, 23, 77, 44]
abbrev dktX3_copy_0 : List UInt8 := dkwX3_copy_0 ++ dktX3_copy_1
theorem dksX3_copy_0 : cX3_copy.data.toList.drop 0 = dktX3_copy_0 := by decide +kernel
theorem dksX3_copy_1 : cX3_copy.data.toList.drop 21 = dktX3_copy_1 := dk_seg dksX3_copy_0 21 rfl rfl
theorem dksX3_copy_2 : cX3_copy.data.toList.drop 44 = dktX3_copy_2 := dk_seg dksX3_copy_1 23 rfl rfl
theorem dX3_copy_0 : decode cX3_copy 0 = .ok (.new 11, 3) := dk_187 0 11 (dk_at dksX3_copy_0 0 rfl rfl)
theorem dX3_copy_3 : decode cX3_copy 3 = .ok (.dup, 1) := dk_89 (dk_at dksX3_copy_0 3 rfl rfl)
theorem dX3_copy_4 : decode cX3_copy 4 = .ok (.aload_n 0, 1) := dk_42 (dk_at dksX3_copy_0 4 rfl rfl)
theorem dX3_copy_5 : decode cX3_copy 5 = .ok (.getfield 16, 3) := dk_180 0 16 (dk_at dksX3_copy_0 5 rfl rfl)
theorem dX3_copy_8 : decode cX3_copy 8 = .ok (.invokespecial 20, 3) := dk_183 0 20 (dk_at dksX3_copy_0 8 rfl rfl)
theorem dX3_copy_11 : decode cX3_copy 11 = .ok (.astore_n 1, 1) := dk_76 (dk_at dksX3_copy_0 11 rfl rfl)
theorem dX3_copy_12 : decode cX3_copy 12 = .ok (.aload_n 0, 1) := dk_42 (dk_at dksX3_copy_0 12 rfl rfl)
theorem dX3_copy_13 : decode cX3_copy 13 = .ok (.getfield 10, 3) := dk_180 0 10 (dk_at dksX3_copy_0 13 rfl rfl)
theorem dX3_copy_16 : decode cX3_copy 16 = .ok (.invokevirtual 23, 3) := dk_182 0 23 (dk_at dksX3_copy_0 16 rfl rfl)
theorem dX3_copy_19 : decode cX3_copy 19 = .ok (.astore_n 2, 1) := dk_77 (dk_at dksX3_copy_0 19 rfl rfl)
theorem dX3_copy_20 : decode cX3_copy 20 = .ok (.aload_n 2, 1) := dk_44 (dk_at dksX3_copy_0 20 rfl rfl)
theorem dX3_copy_21 : decode cX3_copy 21 = .ok (.invokeinterface 27 1, 5) := by decide +kernel
theorem dX3_copy_26 : decode cX3_copy 26 = .ok (.ifCond .eq 31, 3) := dk_153 0 31 (dk_at dksX3_copy_1 5 rfl rfl)
theorem dX3_copy_29 : decode cX3_copy 29 = .ok (.aload_n 2, 1) := dk_44 (dk_at dksX3_copy_1 8 rfl rfl)
theorem dX3_copy_30 : decode cX3_copy 30 = .ok (.invokeinterface 33 1, 5) := by decide +kernel
theorem dX3_copy_35 : decode cX3_copy 35 = .ok (.checkcast 37, 3) := dk_192 0 37 (dk_at dksX3_copy_1 14 rfl rfl)
theorem dX3_copy_38 : decode cX3_copy 38 = .ok (.astore_n 3, 1) := dk_78 (dk_at dksX3_copy_1 17 rfl rfl)
theorem dX3_copy_39 : decode cX3_copy 39 = .ok (.aload_n 1, 1) := dk_43 (dk_at dksX3_copy_1 18 rfl rfl)
theorem dX3_copy_40 : decode cX3_copy 40 = .ok (.getfield 10, 3) := dk_180 0 10 (dk_at dksX3_copy_1 19 rfl rfl)
theorem dX3_copy_43 : decode cX3_copy 43 = .ok (.aload_n 3, 1) := dk_45 (dk_at dksX3_copy_1 22 rfl rfl)
theorem dX3_copy_44 : decode cX3_copy 44 = .ok (.invokeinterface 39 1, 5) := by decide +kernel
theorem dX3_copy_49 : decode cX3_copy 49 = .ok (.invokevirtual 43, 3) := dk_182 0 43 (dk_at dksX3_copy_2 5 rfl rfl)
theorem dX3_copy_52 : decode cX3_copy 52 = .ok (.istore 4, 2) := dk_54 4 (dk_at dksX3_copy_2 8 rfl rfl)
theorem dX3_copy_54 : decode cX3_copy 54 = .ok (.goto (-34), 3) := dk_167 255 222 (dk_at dksX3_copy_2 10 rfl rfl)
theorem dX3_copy_57 : decode cX3_copy 57 = .ok (.aload_n 1, 1) := dk_43 (dk_at dksX3_copy_2 13 rfl rfl)
theorem dX3_copy_58 : decode cX3_copy 58 = .ok (.areturn, 1) := dk_176 (dk_at dksX3_copy_2 14 rfl rfl)
abbrev cX3_iterator : ByteArray := prog_15_method_7_code
def yX3_iterator : MethodName := ⟨RX3, "iterator", "()Ljava/util/Iterator;"⟩
def dkwX3_iterator_0 : List UInt8 := [187, 0, 64, 89, 42, 183, 0, 66, 176]
abbrev dktX3_iterator_0 : List UInt8 := dkwX3_iterator_0 ++ []
theorem dksX3_iterator_0 : cX3_iterator.data.toList.drop 0 = dktX3_iterator_0 := by decide +kernel
theorem dX3_iterator_0 : decode cX3_iterator 0 = .ok (.new 64, 3) := dk_187 0 64 (dk_at dksX3_iterator_0 0 rfl rfl)
theorem dX3_iterator_3 : decode cX3_iterator 3 = .ok (.dup, 1) := dk_89 (dk_at dksX3_iterator_0 3 rfl rfl)
theorem dX3_iterator_4 : decode cX3_iterator 4 = .ok (.aload_n 0, 1) := dk_42 (dk_at dksX3_iterator_0 4 rfl rfl)
theorem dX3_iterator_5 : decode cX3_iterator 5 = .ok (.invokespecial 66, 3) := dk_183 0 66 (dk_at dksX3_iterator_0 5 rfl rfl)
theorem dX3_iterator_8 : decode cX3_iterator 8 = .ok (.areturn, 1) := dk_176 (dk_at dksX3_iterator_0 8 rfl rfl)
abbrev cX3_get : ByteArray := prog_15_method_4_code
def yX3_get : MethodName := ⟨RX3, "get", "(I)LCurtainRiggers$Numbered;"⟩
def dkwX3_get_0 : List UInt8 := [42, 180, 0, 10, 27, 182, 0, 51, 192, 0, 37, 176]
abbrev dktX3_get_0 : List UInt8 := dkwX3_get_0 ++ []
theorem dksX3_get_0 : cX3_get.data.toList.drop 0 = dktX3_get_0 := by decide +kernel
theorem dX3_get_0 : decode cX3_get 0 = .ok (.aload_n 0, 1) := dk_42 (dk_at dksX3_get_0 0 rfl rfl)
theorem dX3_get_1 : decode cX3_get 1 = .ok (.getfield 10, 3) := dk_180 0 10 (dk_at dksX3_get_0 1 rfl rfl)
theorem dX3_get_4 : decode cX3_get 4 = .ok (.iload_n 1, 1) := dk_27 (dk_at dksX3_get_0 4 rfl rfl)
theorem dX3_get_5 : decode cX3_get 5 = .ok (.invokevirtual 51, 3) := dk_182 0 51 (dk_at dksX3_get_0 5 rfl rfl)
theorem dX3_get_8 : decode cX3_get 8 = .ok (.checkcast 37, 3) := dk_192 0 37 (dk_at dksX3_get_0 8 rfl rfl)
theorem dX3_get_11 : decode cX3_get 11 = .ok (.areturn, 1) := dk_176 (dk_at dksX3_get_0 11 rfl rfl)
abbrev cX3_add : ByteArray := prog_15_method_6_code
def yX3_add : MethodName := ⟨RX3, "add", "(LCurtainRiggers$Numbered;)I"⟩
def dkwX3_add_0 : List UInt8 := [42, 182, 0, 61, 42, 180, 0, 10, 43, 182, 0, 43, 61, 42, 180, 0, 10, 182, 0, 47, 4, 100, 172]
abbrev dktX3_add_0 : List UInt8 := dkwX3_add_0 ++ []
theorem dksX3_add_0 : cX3_add.data.toList.drop 0 = dktX3_add_0 := by decide +kernel
theorem dX3_add_0 : decode cX3_add 0 = .ok (.aload_n 0, 1) := dk_42 (dk_at dksX3_add_0 0 rfl rfl)
theorem dX3_add_1 : decode cX3_add 1 = .ok (.invokevirtual 61, 3) := dk_182 0 61 (dk_at dksX3_add_0 1 rfl rfl)
theorem dX3_add_4 : decode cX3_add 4 = .ok (.aload_n 0, 1) := dk_42 (dk_at dksX3_add_0 4 rfl rfl)
theorem dX3_add_5 : decode cX3_add 5 = .ok (.getfield 10, 3) := dk_180 0 10 (dk_at dksX3_add_0 5 rfl rfl)
theorem dX3_add_8 : decode cX3_add 8 = .ok (.aload_n 1, 1) := dk_43 (dk_at dksX3_add_0 8 rfl rfl)
theorem dX3_add_9 : decode cX3_add 9 = .ok (.invokevirtual 43, 3) := dk_182 0 43 (dk_at dksX3_add_0 9 rfl rfl)
theorem dX3_add_12 : decode cX3_add 12 = .ok (.istore_n 2, 1) := dk_61 (dk_at dksX3_add_0 12 rfl rfl)
theorem dX3_add_13 : decode cX3_add 13 = .ok (.aload_n 0, 1) := dk_42 (dk_at dksX3_add_0 13 rfl rfl)
theorem dX3_add_14 : decode cX3_add 14 = .ok (.getfield 10, 3) := dk_180 0 10 (dk_at dksX3_add_0 14 rfl rfl)
theorem dX3_add_17 : decode cX3_add 17 = .ok (.invokevirtual 47, 3) := dk_182 0 47 (dk_at dksX3_add_0 17 rfl rfl)
theorem dX3_add_20 : decode cX3_add 20 = .ok (.iconst 1, 1) := dk_4 (dk_at dksX3_add_0 20 rfl rfl)
theorem dX3_add_21 : decode cX3_add 21 = .ok (.isub, 1) := dk_100 (dk_at dksX3_add_0 21 rfl rfl)
theorem dX3_add_22 : decode cX3_add 22 = .ok (.ireturn, 1) := dk_172 (dk_at dksX3_add_0 22 rfl rfl)
abbrev cX3_checkRoom : ByteArray := prog_15_method_5_code
def yX3_checkRoom : MethodName := ⟨RX3, "checkRoom", "()V"⟩
def dkwX3_checkRoom_0 : List UInt8 := [42, 180, 0, 10, 182, 0, 47, 42, 180, 0, 16, 162, 0, 7, 4, 167, 0, 4, 3, 184, 0, 55, 177]
abbrev dktX3_checkRoom_0 : List UInt8 := dkwX3_checkRoom_0 ++ []
theorem dksX3_checkRoom_0 : cX3_checkRoom.data.toList.drop 0 = dktX3_checkRoom_0 := by decide +kernel
theorem dX3_checkRoom_0 : decode cX3_checkRoom 0 = .ok (.aload_n 0, 1) := dk_42 (dk_at dksX3_checkRoom_0 0 rfl rfl)
theorem dX3_checkRoom_1 : decode cX3_checkRoom 1 = .ok (.getfield 10, 3) := dk_180 0 10 (dk_at dksX3_checkRoom_0 1 rfl rfl)
theorem dX3_checkRoom_4 : decode cX3_checkRoom 4 = .ok (.invokevirtual 47, 3) := dk_182 0 47 (dk_at dksX3_checkRoom_0 4 rfl rfl)
theorem dX3_checkRoom_7 : decode cX3_checkRoom 7 = .ok (.aload_n 0, 1) := dk_42 (dk_at dksX3_checkRoom_0 7 rfl rfl)
theorem dX3_checkRoom_8 : decode cX3_checkRoom 8 = .ok (.getfield 16, 3) := dk_180 0 16 (dk_at dksX3_checkRoom_0 8 rfl rfl)
theorem dX3_checkRoom_11 : decode cX3_checkRoom 11 = .ok (.if_icmp .ge 7, 3) := dk_162 0 7 (dk_at dksX3_checkRoom_0 11 rfl rfl)
theorem dX3_checkRoom_14 : decode cX3_checkRoom 14 = .ok (.iconst 1, 1) := dk_4 (dk_at dksX3_checkRoom_0 14 rfl rfl)
theorem dX3_checkRoom_15 : decode cX3_checkRoom 15 = .ok (.goto 4, 3) := dk_167 0 4 (dk_at dksX3_checkRoom_0 15 rfl rfl)
theorem dX3_checkRoom_18 : decode cX3_checkRoom 18 = .ok (.iconst 0, 1) := dk_3 (dk_at dksX3_checkRoom_0 18 rfl rfl)
theorem dX3_checkRoom_19 : decode cX3_checkRoom 19 = .ok (.invokestatic 55, 3) := dk_184 0 55 (dk_at dksX3_checkRoom_0 19 rfl rfl)
theorem dX3_checkRoom_22 : decode cX3_checkRoom 22 = .ok (.return_, 1) := dk_177 (dk_at dksX3_checkRoom_0 22 rfl rfl)
theorem q71 : (Jvm.Cond.initialized "CurtainRiggers$Row") ∈ lw_all := lw_g (lw_at lw_m1 3 rfl) rfl
theorem q133 : (Jvm.Cond.instantiable "CurtainRiggers$Row" (2 : Nat)) ∈ lw_all := lw_g (lw_at lw_m1 65 rfl) rfl
theorem q135 : (Jvm.Cond.instanceMethod ({ cls := "CurtainRiggers$Row", name := "<init>", desc := "(I)V" } : Jvm.MethodName)) ∈ lw_all := lw_g (lw_at lw_m1 67 rfl) rfl
theorem q136 : (Jvm.Cond.code ({ cls := "CurtainRiggers$Row", name := "<init>", desc := "(I)V" } : Jvm.MethodName) prog_15_method_1_code (2 : Nat) (Option.none : Option Jvm.ClassFile.FieldType)) ∈ lw_all := lw_g (lw_at lw_m1 68 rfl) rfl
theorem q137 : (Jvm.Cond.methodLink "CurtainRiggers$Row" (1 : Nat) ({ cls := "java/lang/Object", name := "<init>", desc := "()V" } : Jvm.MethodName)) ∈ lw_all := lw_g (lw_at lw_m1 69 rfl) rfl
theorem q138 : (Jvm.Cond.classLink "CurtainRiggers$Row" (7 : Nat) "java/util/ArrayList") ∈ lw_all := lw_g (lw_at lw_m1 70 rfl) rfl
theorem q140 : (Jvm.Cond.methodLink "CurtainRiggers$Row" (9 : Nat) ({ cls := "java/util/ArrayList", name := "<init>", desc := "()V" } : Jvm.MethodName)) ∈ lw_all := lw_g (lw_at lw_m1 72 rfl) rfl
theorem q167 : (Jvm.Cond.fieldLink "CurtainRiggers$Row" (10 : Nat) "CurtainRiggers$Row" "things" "Ljava/util/ArrayList;") ∈ lw_all := lw_g (lw_at lw_m1 99 rfl) rfl
theorem q169 : (Jvm.Cond.fieldLink "CurtainRiggers$Row" (16 : Nat) "CurtainRiggers$Row" "most" "I") ∈ lw_all := lw_g (lw_at lw_m1 101 rfl) rfl
theorem q170 : (Jvm.Cond.laysFinal "CurtainRiggers$Row" "CurtainRiggers$Row" "things" "Ljava/util/ArrayList;") ∈ lw_all := lw_g (lw_at lw_m1 102 rfl) rfl
theorem q171 : (Jvm.Cond.soleField "CurtainRiggers$Row" "things") ∈ lw_all := lw_g (lw_at lw_m1 103 rfl) rfl
theorem q172 : (Jvm.Cond.laysFinal "CurtainRiggers$Row" "CurtainRiggers$Row" "most" "I") ∈ lw_all := lw_g (lw_at lw_m1 104 rfl) rfl
theorem q173 : (Jvm.Cond.soleField "CurtainRiggers$Row" "most") ∈ lw_all := lw_g (lw_at lw_m1 105 rfl) rfl
theorem q174 : (Jvm.Cond.superclass "CurtainRiggers$Row" "java/lang/Object") ∈ lw_all := lw_g (lw_at lw_m1 106 rfl) rfl
theorem q307 : (Jvm.Cond.instanceMethod ({ cls := "CurtainRiggers$Row", name := "size", desc := "()I" } : Jvm.MethodName)) ∈ lw_all := lw_g (lw_at lw_m1 239 rfl) rfl
theorem q308 : (Jvm.Cond.selects "CurtainRiggers$Row" ({ cls := "CurtainRiggers$Row", name := "size", desc := "()I" } : Jvm.MethodName) ({ cls := "CurtainRiggers$Row", name := "size", desc := "()I" } : Jvm.MethodName)) ∈ lw_all := lw_g (lw_at lw_m2 0 rfl) rfl
theorem q309 : (Jvm.Cond.code ({ cls := "CurtainRiggers$Row", name := "size", desc := "()I" } : Jvm.MethodName) prog_15_method_3_code (1 : Nat) (Option.some Jvm.ClassFile.FieldType.int)) ∈ lw_all := lw_g (lw_at lw_m2 1 rfl) rfl
theorem q310 : (Jvm.Cond.methodLink "CurtainRiggers$Row" (47 : Nat) ({ cls := "java/util/ArrayList", name := "size", desc := "()I" } : Jvm.MethodName)) ∈ lw_all := lw_g (lw_at lw_m2 2 rfl) rfl
theorem q337 : (Jvm.Cond.instanceMethod ({ cls := "CurtainRiggers$Row", name := "copy", desc := "()LCurtainRiggers$Row;" } : Jvm.MethodName)) ∈ lw_all := lw_g (lw_at lw_m2 29 rfl) rfl
theorem q338 : (Jvm.Cond.selects "CurtainRiggers$Row" ({ cls := "CurtainRiggers$Row", name := "copy", desc := "()LCurtainRiggers$Row;" } : Jvm.MethodName) ({ cls := "CurtainRiggers$Row", name := "copy", desc := "()LCurtainRiggers$Row;" } : Jvm.MethodName)) ∈ lw_all := lw_g (lw_at lw_m2 30 rfl) rfl
theorem q339 : (Jvm.Cond.code ({ cls := "CurtainRiggers$Row", name := "copy", desc := "()LCurtainRiggers$Row;" } : Jvm.MethodName) prog_15_method_2_code (5 : Nat) (Option.some (Jvm.ClassFile.FieldType.object "CurtainRiggers$Row"))) ∈ lw_all := lw_g (lw_at lw_m2 31 rfl) rfl
theorem q340 : (Jvm.Cond.classLink "CurtainRiggers$Row" (11 : Nat) "CurtainRiggers$Row") ∈ lw_all := lw_g (lw_at lw_m2 32 rfl) rfl
theorem q341 : (Jvm.Cond.methodLink "CurtainRiggers$Row" (20 : Nat) ({ cls := "CurtainRiggers$Row", name := "<init>", desc := "(I)V" } : Jvm.MethodName)) ∈ lw_all := lw_g (lw_at lw_m2 33 rfl) rfl
theorem q342 : (Jvm.Cond.methodLink "CurtainRiggers$Row" (23 : Nat) ({ cls := "java/util/ArrayList", name := "iterator", desc := "()Ljava/util/Iterator;" } : Jvm.MethodName)) ∈ lw_all := lw_g (lw_at lw_m2 34 rfl) rfl
theorem q365 : (Jvm.Cond.interfaceEntry "CurtainRiggers$Row" (27 : Nat)) ∈ lw_tbl := lw_at lw_m2 57 rfl
theorem q366 : (Jvm.Cond.methodLink "CurtainRiggers$Row" (27 : Nat) ({ cls := "java/util/Iterator", name := "hasNext", desc := "()Z" } : Jvm.MethodName)) ∈ lw_all := lw_g (lw_at lw_m2 58 rfl) rfl
theorem q388 : (Jvm.Cond.interfaceEntry "CurtainRiggers$Row" (33 : Nat)) ∈ lw_tbl := lw_at lw_m2 80 rfl
theorem q389 : (Jvm.Cond.methodLink "CurtainRiggers$Row" (33 : Nat) ({ cls := "java/util/Iterator", name := "next", desc := "()Ljava/lang/Object;" } : Jvm.MethodName)) ∈ lw_all := lw_g (lw_at lw_m2 81 rfl) rfl
theorem q508 : (Jvm.Cond.classLink "CurtainRiggers$Row" (37 : Nat) "CurtainRiggers$Numbered") ∈ lw_all := lw_g (lw_at lw_m2 200 rfl) rfl
theorem q509 : (Jvm.Cond.interfaceEntry "CurtainRiggers$Row" (39 : Nat)) ∈ lw_tbl := lw_at lw_m2 201 rfl
theorem q510 : (Jvm.Cond.methodLink "CurtainRiggers$Row" (39 : Nat) ({ cls := "CurtainRiggers$Numbered", name := "copy", desc := "()LCurtainRiggers$Numbered;" } : Jvm.MethodName)) ∈ lw_all := lw_g (lw_at lw_m2 202 rfl) rfl
theorem q644 : (Jvm.Cond.methodLink "CurtainRiggers$Row" (43 : Nat) ({ cls := "java/util/ArrayList", name := "add", desc := "(Ljava/lang/Object;)Z" } : Jvm.MethodName)) ∈ lw_all := lw_g (lw_at lw_m3 96 rfl) rfl
theorem q687 : (Jvm.Cond.selects "CurtainRiggers$Row" ({ cls := "java/lang/Object", name := "getClass", desc := "()Ljava/lang/Class;" } : Jvm.MethodName) ({ cls := "java/lang/Object", name := "getClass", desc := "()Ljava/lang/Class;" } : Jvm.MethodName)) ∈ lw_all := lw_g (lw_at lw_m3 139 rfl) rfl
theorem q744 : (Jvm.Cond.instanceMethod ({ cls := "CurtainRiggers$Row", name := "iterator", desc := "()Ljava/util/Iterator;" } : Jvm.MethodName)) ∈ lw_all := lw_g (lw_at lw_m3 196 rfl) rfl
theorem q745 : (Jvm.Cond.selects "CurtainRiggers$Row" ({ cls := "CurtainRiggers$Row", name := "iterator", desc := "()Ljava/util/Iterator;" } : Jvm.MethodName) ({ cls := "CurtainRiggers$Row", name := "iterator", desc := "()Ljava/util/Iterator;" } : Jvm.MethodName)) ∈ lw_all := lw_g (lw_at lw_m3 197 rfl) rfl
theorem q746 : (Jvm.Cond.code ({ cls := "CurtainRiggers$Row", name := "iterator", desc := "()Ljava/util/Iterator;" } : Jvm.MethodName) prog_15_method_7_code (1 : Nat) (Option.some (Jvm.ClassFile.FieldType.object "java/util/Iterator"))) ∈ lw_all := lw_g (lw_at lw_m3 198 rfl) rfl
theorem q747 : (Jvm.Cond.classLink "CurtainRiggers$Row" (64 : Nat) "CurtainRiggers$Row$Steps") ∈ lw_all := lw_g (lw_at lw_m3 199 rfl) rfl
theorem q749 : (Jvm.Cond.methodLinkNest "CurtainRiggers$Row" (66 : Nat) ({ cls := "CurtainRiggers$Row$Steps", name := "<init>", desc := "(LCurtainRiggers$Row;)V" } : Jvm.MethodName) "CurtainRiggers") ∈ lw_tbl := lw_at lw_m3 201 rfl
theorem q1061 : (Jvm.Cond.castable "CurtainRiggers$Row" "java/lang/Iterable") ∈ lw_tbl := lw_at lw_m5 33 rfl
theorem q1062 : (Jvm.Cond.selects "CurtainRiggers$Row" ({ cls := "java/lang/Iterable", name := "iterator", desc := "()Ljava/util/Iterator;" } : Jvm.MethodName) ({ cls := "CurtainRiggers$Row", name := "iterator", desc := "()Ljava/util/Iterator;" } : Jvm.MethodName)) ∈ lw_all := lw_g (lw_at lw_m5 34 rfl) rfl
theorem q1063 : (Jvm.Cond.unhidden "CurtainRiggers$Row" "iterator" "()Ljava/util/Iterator;") ∈ lw_tbl := lw_at lw_m5 35 rfl
theorem q1064 : (Jvm.Cond.publicMethod ({ cls := "CurtainRiggers$Row", name := "iterator", desc := "()Ljava/util/Iterator;" } : Jvm.MethodName)) ∈ lw_tbl := lw_at lw_m5 36 rfl
theorem q1175 : (Jvm.Cond.instanceMethod ({ cls := "CurtainRiggers$Row", name := "get", desc := "(I)LCurtainRiggers$Numbered;" } : Jvm.MethodName)) ∈ lw_all := lw_g (lw_at lw_m5 147 rfl) rfl
theorem q1176 : (Jvm.Cond.selects "CurtainRiggers$Row" ({ cls := "CurtainRiggers$Row", name := "get", desc := "(I)LCurtainRiggers$Numbered;" } : Jvm.MethodName) ({ cls := "CurtainRiggers$Row", name := "get", desc := "(I)LCurtainRiggers$Numbered;" } : Jvm.MethodName)) ∈ lw_all := lw_g (lw_at lw_m5 148 rfl) rfl
theorem q1177 : (Jvm.Cond.code ({ cls := "CurtainRiggers$Row", name := "get", desc := "(I)LCurtainRiggers$Numbered;" } : Jvm.MethodName) prog_15_method_4_code (2 : Nat) (Option.some (Jvm.ClassFile.FieldType.object "CurtainRiggers$Numbered"))) ∈ lw_all := lw_g (lw_at lw_m5 149 rfl) rfl
theorem q1178 : (Jvm.Cond.methodLink "CurtainRiggers$Row" (51 : Nat) ({ cls := "java/util/ArrayList", name := "get", desc := "(I)Ljava/lang/Object;" } : Jvm.MethodName)) ∈ lw_all := lw_g (lw_at lw_m5 150 rfl) rfl
theorem q1535 : (Jvm.Cond.instanceMethod ({ cls := "CurtainRiggers$Row", name := "add", desc := "(LCurtainRiggers$Numbered;)I" } : Jvm.MethodName)) ∈ lw_all := lw_g (lw_at lw_m7 27 rfl) rfl
theorem q1536 : (Jvm.Cond.selects "CurtainRiggers$Row" ({ cls := "CurtainRiggers$Row", name := "add", desc := "(LCurtainRiggers$Numbered;)I" } : Jvm.MethodName) ({ cls := "CurtainRiggers$Row", name := "add", desc := "(LCurtainRiggers$Numbered;)I" } : Jvm.MethodName)) ∈ lw_all := lw_g (lw_at lw_m7 28 rfl) rfl
theorem q1537 : (Jvm.Cond.code ({ cls := "CurtainRiggers$Row", name := "add", desc := "(LCurtainRiggers$Numbered;)I" } : Jvm.MethodName) prog_15_method_6_code (3 : Nat) (Option.some Jvm.ClassFile.FieldType.int)) ∈ lw_all := lw_g (lw_at lw_m7 29 rfl) rfl
theorem q1538 : (Jvm.Cond.methodLink "CurtainRiggers$Row" (61 : Nat) ({ cls := "CurtainRiggers$Row", name := "checkRoom", desc := "()V" } : Jvm.MethodName)) ∈ lw_all := lw_g (lw_at lw_m7 30 rfl) rfl
theorem q1539 : (Jvm.Cond.instanceMethod ({ cls := "CurtainRiggers$Row", name := "checkRoom", desc := "()V" } : Jvm.MethodName)) ∈ lw_all := lw_g (lw_at lw_m7 31 rfl) rfl
theorem q1540 : (Jvm.Cond.selects "CurtainRiggers$Row" ({ cls := "CurtainRiggers$Row", name := "checkRoom", desc := "()V" } : Jvm.MethodName) ({ cls := "CurtainRiggers$Row", name := "checkRoom", desc := "()V" } : Jvm.MethodName)) ∈ lw_all := lw_g (lw_at lw_m7 32 rfl) rfl
theorem q1541 : (Jvm.Cond.code ({ cls := "CurtainRiggers$Row", name := "checkRoom", desc := "()V" } : Jvm.MethodName) prog_15_method_5_code (1 : Nat) (Option.none : Option Jvm.ClassFile.FieldType)) ∈ lw_all := lw_g (lw_at lw_m7 33 rfl) rfl
theorem q1542 : (Jvm.Cond.methodLinkNest "CurtainRiggers$Row" (55 : Nat) ({ cls := "CurtainRiggers", name := "checkState", desc := "(Z)V" } : Jvm.MethodName) "CurtainRiggers") ∈ lw_tbl := lw_at lw_m7 34 rfl
theorem q2708 : (Jvm.Cond.castable "CurtainRiggers$Row" "java/lang/Object") ∈ lw_tbl := lw_at lw_m12 0 rfl
theorem in_X3 : ∀ w ∈ wsX30, w ∈ lw_all := lw_in wsX30 [170, 172] (by decide +kernel) (by decide +kernel)

/-! CurtainRiggers$Bar -/
set_option maxRecDepth 100000
def RX5 : String := "CurtainRiggers$Bar"
def TX5 : u_T := fun k => match k with
  | 0 => ("CurtainRiggers$Bar", "number", "I", true)
  | 1 => ("CurtainRiggers$Bar", "height", "I", false)
  | 2 => ("CurtainRiggers$Bar", "load", "I", false)
  | 3 => ("CurtainRiggers$Bar", "curtains", "I", false)
  | 4 => ("CurtainRiggers$Bar", "weights", "I", false)
  | 5 => ("CurtainRiggers$Bar", "years", "I", false)
  | _ => ("CurtainRiggers$Bar", "flown", "I", false)
def tyX5 : Nat → FieldType := fun k => match k with
  | 0 => .int
  | 1 => .int
  | 2 => .int
  | 3 => .int
  | 4 => .int
  | 5 => .int
  | _ => .int
abbrev wsX50 : List Cond := u_ws RX5 TX5 7
theorem nmX5 : ∀ a, a < 7 → ∀ b, b < 7 → a ≠ b → (TX5 a).2.1 ≠ (TX5 b).2.1 := by decide +kernel
theorem tyX5_ok : ∀ k, k < 7 → parseFieldDescriptor (TX5 k).2.2.1 = some (tyX5 k) := by decide +kernel
abbrev cX5_copy : ByteArray := prog_2_method_12_code
def yX5_copy : MethodName := ⟨RX5, "copy", "()LCurtainRiggers$Numbered;"⟩
theorem dX5_copy_0 : decode cX5_copy 0 = .ok (.aload_n 0, 1) := by decide +kernel
theorem dX5_copy_1 : decode cX5_copy 1 = .ok (.invokevirtual 63, 3) := by decide +kernel
theorem dX5_copy_4 : decode cX5_copy 4 = .ok (.areturn, 1) := by decide +kernel
abbrev cX5_copy_2 : ByteArray := prog_2_method_3_code
def yX5_copy_2 : MethodName := ⟨RX5, "copy", "()LCurtainRiggers$Bar;"⟩
def dkwX5_copy_2_2 : List UInt8 := [180, 0, 30, 181, 0, 30, 43, 42, 180, 0, 33, 181, 0, 33, 43, 176]
abbrev dktX5_copy_2_2 : List UInt8 := dkwX5_copy_2_2 ++ []
def dkwX5_copy_2_1 : List UInt8 := [180, 0, 21, 181, 0, 21, 43, 42, 180, 0, 24, 181, 0, 24, 43, 42, 180, 0, 27, 181, 0, 27, 43, 42]
abbrev dktX5_copy_2_1 : List UInt8 := dkwX5_copy_2_1 ++ dktX5_copy_2_2
def dkwX5_copy_2_0 : List UInt8 := [187, 0, 10, 89, 42, 180, 0, 9, 183, 0, 15, 76, 43, 42, 180, 0, 18, 181, 0, 18, 43, 42]
abbrev dktX5_copy_2_0 : List UInt8 := dkwX5_copy_2_0 ++ dktX5_copy_2_1
theorem dksX5_copy_2_0 : cX5_copy_2.data.toList.drop 0 = dktX5_copy_2_0 := by decide +kernel
theorem dksX5_copy_2_1 : cX5_copy_2.data.toList.drop 22 = dktX5_copy_2_1 := dk_seg dksX5_copy_2_0 22 rfl rfl
theorem dksX5_copy_2_2 : cX5_copy_2.data.toList.drop 46 = dktX5_copy_2_2 := dk_seg dksX5_copy_2_1 24 rfl rfl
theorem dX5_copy_2_0 : decode cX5_copy_2 0 = .ok (.new 10, 3) := dk_187 0 10 (dk_at dksX5_copy_2_0 0 rfl rfl)
theorem dX5_copy_2_3 : decode cX5_copy_2 3 = .ok (.dup, 1) := dk_89 (dk_at dksX5_copy_2_0 3 rfl rfl)
theorem dX5_copy_2_4 : decode cX5_copy_2 4 = .ok (.aload_n 0, 1) := dk_42 (dk_at dksX5_copy_2_0 4 rfl rfl)
theorem dX5_copy_2_5 : decode cX5_copy_2 5 = .ok (.getfield 9, 3) := dk_180 0 9 (dk_at dksX5_copy_2_0 5 rfl rfl)
theorem dX5_copy_2_8 : decode cX5_copy_2 8 = .ok (.invokespecial 15, 3) := dk_183 0 15 (dk_at dksX5_copy_2_0 8 rfl rfl)
theorem dX5_copy_2_11 : decode cX5_copy_2 11 = .ok (.astore_n 1, 1) := dk_76 (dk_at dksX5_copy_2_0 11 rfl rfl)
theorem dX5_copy_2_12 : decode cX5_copy_2 12 = .ok (.aload_n 1, 1) := dk_43 (dk_at dksX5_copy_2_0 12 rfl rfl)
theorem dX5_copy_2_13 : decode cX5_copy_2 13 = .ok (.aload_n 0, 1) := dk_42 (dk_at dksX5_copy_2_0 13 rfl rfl)
theorem dX5_copy_2_14 : decode cX5_copy_2 14 = .ok (.getfield 18, 3) := dk_180 0 18 (dk_at dksX5_copy_2_0 14 rfl rfl)
theorem dX5_copy_2_17 : decode cX5_copy_2 17 = .ok (.putfield 18, 3) := dk_181 0 18 (dk_at dksX5_copy_2_0 17 rfl rfl)
theorem dX5_copy_2_20 : decode cX5_copy_2 20 = .ok (.aload_n 1, 1) := dk_43 (dk_at dksX5_copy_2_0 20 rfl rfl)
theorem dX5_copy_2_21 : decode cX5_copy_2 21 = .ok (.aload_n 0, 1) := dk_42 (dk_at dksX5_copy_2_0 21 rfl rfl)
theorem dX5_copy_2_22 : decode cX5_copy_2 22 = .ok (.getfield 21, 3) := dk_180 0 21 (dk_at dksX5_copy_2_1 0 rfl rfl)
theorem dX5_copy_2_25 : decode cX5_copy_2 25 = .ok (.putfield 21, 3) := dk_181 0 21 (dk_at dksX5_copy_2_1 3 rfl rfl)
theorem dX5_copy_2_28 : decode cX5_copy_2 28 = .ok (.aload_n 1, 1) := dk_43 (dk_at dksX5_copy_2_1 6 rfl rfl)
theorem dX5_copy_2_29 : decode cX5_copy_2 29 = .ok (.aload_n 0, 1) := dk_42 (dk_at dksX5_copy_2_1 7 rfl rfl)
theorem dX5_copy_2_30 : decode cX5_copy_2 30 = .ok (.getfield 24, 3) := dk_180 0 24 (dk_at dksX5_copy_2_1 8 rfl rfl)
theorem dX5_copy_2_33 : decode cX5_copy_2 33 = .ok (.putfield 24, 3) := dk_181 0 24 (dk_at dksX5_copy_2_1 11 rfl rfl)
theorem dX5_copy_2_36 : decode cX5_copy_2 36 = .ok (.aload_n 1, 1) := dk_43 (dk_at dksX5_copy_2_1 14 rfl rfl)
theorem dX5_copy_2_37 : decode cX5_copy_2 37 = .ok (.aload_n 0, 1) := dk_42 (dk_at dksX5_copy_2_1 15 rfl rfl)
theorem dX5_copy_2_38 : decode cX5_copy_2 38 = .ok (.getfield 27, 3) := dk_180 0 27 (dk_at dksX5_copy_2_1 16 rfl rfl)
theorem dX5_copy_2_41 : decode cX5_copy_2 41 = .ok (.putfield 27, 3) := dk_181 0 27 (dk_at dksX5_copy_2_1 19 rfl rfl)
theorem dX5_copy_2_44 : decode cX5_copy_2 44 = .ok (.aload_n 1, 1) := dk_43 (dk_at dksX5_copy_2_1 22 rfl rfl)
theorem dX5_copy_2_45 : decode cX5_copy_2 45 = .ok (.aload_n 0, 1) := dk_42 (dk_at dksX5_copy_2_1 23 rfl rfl)
theorem dX5_copy_2_46 : decode cX5_copy_2 46 = .ok (.getfield 30, 3) := dk_180 0 30 (dk_at dksX5_copy_2_2 0 rfl rfl)
theorem dX5_copy_2_49 : decode cX5_copy_2 49 = .ok (.putfield 30, 3) := dk_181 0 30 (dk_at dksX5_copy_2_2 3 rfl rfl)
theorem dX5_copy_2_52 : decode cX5_copy_2 52 = .ok (.aload_n 1, 1) := dk_43 (dk_at dksX5_copy_2_2 6 rfl rfl)
theorem dX5_copy_2_53 : decode cX5_copy_2 53 = .ok (.aload_n 0, 1) := dk_42 (dk_at dksX5_copy_2_2 7 rfl rfl)
theorem dX5_copy_2_54 : decode cX5_copy_2 54 = .ok (.getfield 33, 3) := dk_180 0 33 (dk_at dksX5_copy_2_2 8 rfl rfl)
theorem dX5_copy_2_57 : decode cX5_copy_2 57 = .ok (.putfield 33, 3) := dk_181 0 33 (dk_at dksX5_copy_2_2 11 rfl rfl)
theorem dX5_copy_2_60 : decode cX5_copy_2 60 = .ok (.aload_n 1, 1) := dk_43 (dk_at dksX5_copy_2_2 14 rfl rfl)
theorem dX5_copy_2_61 : decode cX5_copy_2 61 = .ok (.areturn, 1) := dk_176 (dk_at dksX5_copy_2_2 15 rfl rfl)
abbrev cX5_init : ByteArray := prog_2_method_1_code
def yX5_init : MethodName := ⟨RX5, "<init>", "(I)V"⟩
def dkwX5_init_0 : List UInt8 := [42, 183, 0, 3, 42, 27, 181, 0, 9, 177]
abbrev dktX5_init_0 : List UInt8 := dkwX5_init_0 ++ []
theorem dksX5_init_0 : cX5_init.data.toList.drop 0 = dktX5_init_0 := by decide +kernel
theorem dX5_init_0 : decode cX5_init 0 = .ok (.aload_n 0, 1) := dk_42 (dk_at dksX5_init_0 0 rfl rfl)
theorem dX5_init_1 : decode cX5_init 1 = .ok (.invokespecial 3, 3) := dk_183 0 3 (dk_at dksX5_init_0 1 rfl rfl)
theorem dX5_init_4 : decode cX5_init 4 = .ok (.aload_n 0, 1) := dk_42 (dk_at dksX5_init_0 4 rfl rfl)
theorem dX5_init_5 : decode cX5_init 5 = .ok (.iload_n 1, 1) := dk_27 (dk_at dksX5_init_0 5 rfl rfl)
theorem dX5_init_6 : decode cX5_init 6 = .ok (.putfield 9, 3) := dk_181 0 9 (dk_at dksX5_init_0 6 rfl rfl)
theorem dX5_init_9 : decode cX5_init 9 = .ok (.return_, 1) := dk_177 (dk_at dksX5_init_0 9 rfl rfl)
abbrev cX5_number : ByteArray := prog_2_method_2_code
def yX5_number : MethodName := ⟨RX5, "number", "()I"⟩
theorem dX5_number_0 : decode cX5_number 0 = .ok (.aload_n 0, 1) := by decide +kernel
theorem dX5_number_1 : decode cX5_number 1 = .ok (.getfield 9, 3) := by decide +kernel
theorem dX5_number_4 : decode cX5_number 4 = .ok (.ireturn, 1) := by decide +kernel
abbrev cX5_outBy : ByteArray := prog_2_method_5_code
def yX5_outBy : MethodName := ⟨RX5, "outBy", "(II)I"⟩
def dkwX5_outBy_0 : List UInt8 := [42, 180, 0, 21, 27, 96, 16, 10, 28, 104, 100, 184, 0, 36, 172]
abbrev dktX5_outBy_0 : List UInt8 := dkwX5_outBy_0 ++ []
theorem dksX5_outBy_0 : cX5_outBy.data.toList.drop 0 = dktX5_outBy_0 := by decide +kernel
theorem dX5_outBy_0 : decode cX5_outBy 0 = .ok (.aload_n 0, 1) := dk_42 (dk_at dksX5_outBy_0 0 rfl rfl)
theorem dX5_outBy_1 : decode cX5_outBy 1 = .ok (.getfield 21, 3) := dk_180 0 21 (dk_at dksX5_outBy_0 1 rfl rfl)
theorem dX5_outBy_4 : decode cX5_outBy 4 = .ok (.iload_n 1, 1) := dk_27 (dk_at dksX5_outBy_0 4 rfl rfl)
theorem dX5_outBy_5 : decode cX5_outBy 5 = .ok (.iadd, 1) := dk_96 (dk_at dksX5_outBy_0 5 rfl rfl)
theorem dX5_outBy_6 : decode cX5_outBy 6 = .ok (.bipush 10, 2) := dk_16 10 (dk_at dksX5_outBy_0 6 rfl rfl)
theorem dX5_outBy_8 : decode cX5_outBy 8 = .ok (.iload_n 2, 1) := dk_28 (dk_at dksX5_outBy_0 8 rfl rfl)
theorem dX5_outBy_9 : decode cX5_outBy 9 = .ok (.imul, 1) := dk_104 (dk_at dksX5_outBy_0 9 rfl rfl)
theorem dX5_outBy_10 : decode cX5_outBy 10 = .ok (.isub, 1) := dk_100 (dk_at dksX5_outBy_0 10 rfl rfl)
theorem dX5_outBy_11 : decode cX5_outBy 11 = .ok (.invokestatic 36, 3) := dk_184 0 36 (dk_at dksX5_outBy_0 11 rfl rfl)
theorem dX5_outBy_14 : decode cX5_outBy 14 = .ok (.ireturn, 1) := dk_172 (dk_at dksX5_outBy_0 14 rfl rfl)
abbrev cX5_outBy_2 : ByteArray := prog_2_method_6_code
def yX5_outBy_2 : MethodName := ⟨RX5, "outBy", "()I"⟩
def dkwX5_outBy_2_0 : List UInt8 := [42, 3, 42, 180, 0, 27, 182, 0, 42, 172]
abbrev dktX5_outBy_2_0 : List UInt8 := dkwX5_outBy_2_0 ++ []
theorem dksX5_outBy_2_0 : cX5_outBy_2.data.toList.drop 0 = dktX5_outBy_2_0 := by decide +kernel
theorem dX5_outBy_2_0 : decode cX5_outBy_2 0 = .ok (.aload_n 0, 1) := dk_42 (dk_at dksX5_outBy_2_0 0 rfl rfl)
theorem dX5_outBy_2_1 : decode cX5_outBy_2 1 = .ok (.iconst 0, 1) := dk_3 (dk_at dksX5_outBy_2_0 1 rfl rfl)
theorem dX5_outBy_2_2 : decode cX5_outBy_2 2 = .ok (.aload_n 0, 1) := dk_42 (dk_at dksX5_outBy_2_0 2 rfl rfl)
theorem dX5_outBy_2_3 : decode cX5_outBy_2 3 = .ok (.getfield 27, 3) := dk_180 0 27 (dk_at dksX5_outBy_2_0 3 rfl rfl)
theorem dX5_outBy_2_6 : decode cX5_outBy_2 6 = .ok (.invokevirtual 42, 3) := dk_182 0 42 (dk_at dksX5_outBy_2_0 6 rfl rfl)
theorem dX5_outBy_2_9 : decode cX5_outBy_2 9 = .ok (.ireturn, 1) := dk_172 (dk_at dksX5_outBy_2_0 9 rfl rfl)
abbrev cX5_onRope : ByteArray := prog_2_method_8_code
def yX5_onRope : MethodName := ⟨RX5, "onRope", "()I"⟩
def dkwX5_onRope_0 : List UInt8 := [42, 180, 0, 21, 16, 10, 42, 180, 0, 27, 104, 96, 172]
abbrev dktX5_onRope_0 : List UInt8 := dkwX5_onRope_0 ++ []
theorem dksX5_onRope_0 : cX5_onRope.data.toList.drop 0 = dktX5_onRope_0 := by decide +kernel
theorem dX5_onRope_0 : decode cX5_onRope 0 = .ok (.aload_n 0, 1) := dk_42 (dk_at dksX5_onRope_0 0 rfl rfl)
theorem dX5_onRope_1 : decode cX5_onRope 1 = .ok (.getfield 21, 3) := dk_180 0 21 (dk_at dksX5_onRope_0 1 rfl rfl)
theorem dX5_onRope_4 : decode cX5_onRope 4 = .ok (.bipush 10, 2) := dk_16 10 (dk_at dksX5_onRope_0 4 rfl rfl)
theorem dX5_onRope_6 : decode cX5_onRope 6 = .ok (.aload_n 0, 1) := dk_42 (dk_at dksX5_onRope_0 6 rfl rfl)
theorem dX5_onRope_7 : decode cX5_onRope 7 = .ok (.getfield 27, 3) := dk_180 0 27 (dk_at dksX5_onRope_0 7 rfl rfl)
theorem dX5_onRope_10 : decode cX5_onRope 10 = .ok (.imul, 1) := dk_104 (dk_at dksX5_onRope_0 10 rfl rfl)
theorem dX5_onRope_11 : decode cX5_onRope 11 = .ok (.iadd, 1) := dk_96 (dk_at dksX5_onRope_0 11 rfl rfl)
theorem dX5_onRope_12 : decode cX5_onRope 12 = .ok (.ireturn, 1) := dk_172 (dk_at dksX5_onRope_0 12 rfl rfl)
abbrev cX5_bears : ByteArray := prog_2_method_7_code
def yX5_bears : MethodName := ⟨RX5, "bears", "()I"⟩
def dkwX5_bears_0 : List UInt8 := [3, 17, 1, 44, 16, 25, 42, 180, 0, 30, 104, 100, 184, 0, 46, 172]
abbrev dktX5_bears_0 : List UInt8 := dkwX5_bears_0 ++ []
theorem dksX5_bears_0 : cX5_bears.data.toList.drop 0 = dktX5_bears_0 := by decide +kernel
theorem dX5_bears_0 : decode cX5_bears 0 = .ok (.iconst 0, 1) := dk_3 (dk_at dksX5_bears_0 0 rfl rfl)
theorem dX5_bears_1 : decode cX5_bears 1 = .ok (.sipush 300, 3) := dk_17 1 44 (dk_at dksX5_bears_0 1 rfl rfl)
theorem dX5_bears_4 : decode cX5_bears 4 = .ok (.bipush 25, 2) := dk_16 25 (dk_at dksX5_bears_0 4 rfl rfl)
theorem dX5_bears_6 : decode cX5_bears 6 = .ok (.aload_n 0, 1) := dk_42 (dk_at dksX5_bears_0 6 rfl rfl)
theorem dX5_bears_7 : decode cX5_bears 7 = .ok (.getfield 30, 3) := dk_180 0 30 (dk_at dksX5_bears_0 7 rfl rfl)
theorem dX5_bears_10 : decode cX5_bears 10 = .ok (.imul, 1) := dk_104 (dk_at dksX5_bears_0 10 rfl rfl)
theorem dX5_bears_11 : decode cX5_bears 11 = .ok (.isub, 1) := dk_100 (dk_at dksX5_bears_0 11 rfl rfl)
theorem dX5_bears_12 : decode cX5_bears 12 = .ok (.invokestatic 46, 3) := dk_184 0 46 (dk_at dksX5_bears_0 12 rfl rfl)
theorem dX5_bears_15 : decode cX5_bears 15 = .ok (.ireturn, 1) := dk_172 (dk_at dksX5_bears_0 15 rfl rfl)
abbrev cX5_floor : ByteArray := prog_2_method_4_code
def yX5_floor : MethodName := ⟨RX5, "floor", "()I"⟩
def dkwX5_floor_0 : List UInt8 := [42, 180, 0, 9, 6, 112, 172]
abbrev dktX5_floor_0 : List UInt8 := dkwX5_floor_0 ++ []
theorem dksX5_floor_0 : cX5_floor.data.toList.drop 0 = dktX5_floor_0 := by decide +kernel
theorem dX5_floor_0 : decode cX5_floor 0 = .ok (.aload_n 0, 1) := dk_42 (dk_at dksX5_floor_0 0 rfl rfl)
theorem dX5_floor_1 : decode cX5_floor 1 = .ok (.getfield 9, 3) := dk_180 0 9 (dk_at dksX5_floor_0 1 rfl rfl)
theorem dX5_floor_4 : decode cX5_floor 4 = .ok (.iconst 3, 1) := dk_6 (dk_at dksX5_floor_0 4 rfl rfl)
theorem dX5_floor_5 : decode cX5_floor 5 = .ok (.irem, 1) := dk_112 (dk_at dksX5_floor_0 5 rfl rfl)
theorem dX5_floor_6 : decode cX5_floor 6 = .ok (.ireturn, 1) := dk_172 (dk_at dksX5_floor_0 6 rfl rfl)
abbrev cX5_checkLow : ByteArray := prog_2_method_9_code
def yX5_checkLow : MethodName := ⟨RX5, "checkLow", "()V"⟩
def dkwX5_checkLow_0 : List UInt8 := [42, 180, 0, 18, 154, 0, 7, 4, 167, 0, 4, 3, 16, 8, 42, 180, 0, 18, 184, 0, 49, 177]
abbrev dktX5_checkLow_0 : List UInt8 := dkwX5_checkLow_0 ++ []
theorem dksX5_checkLow_0 : cX5_checkLow.data.toList.drop 0 = dktX5_checkLow_0 := by decide +kernel
theorem dX5_checkLow_0 : decode cX5_checkLow 0 = .ok (.aload_n 0, 1) := dk_42 (dk_at dksX5_checkLow_0 0 rfl rfl)
theorem dX5_checkLow_1 : decode cX5_checkLow 1 = .ok (.getfield 18, 3) := dk_180 0 18 (dk_at dksX5_checkLow_0 1 rfl rfl)
theorem dX5_checkLow_4 : decode cX5_checkLow 4 = .ok (.ifCond .ne 7, 3) := dk_154 0 7 (dk_at dksX5_checkLow_0 4 rfl rfl)
theorem dX5_checkLow_7 : decode cX5_checkLow 7 = .ok (.iconst 1, 1) := dk_4 (dk_at dksX5_checkLow_0 7 rfl rfl)
theorem dX5_checkLow_8 : decode cX5_checkLow 8 = .ok (.goto 4, 3) := dk_167 0 4 (dk_at dksX5_checkLow_0 8 rfl rfl)
theorem dX5_checkLow_11 : decode cX5_checkLow 11 = .ok (.iconst 0, 1) := dk_3 (dk_at dksX5_checkLow_0 11 rfl rfl)
theorem dX5_checkLow_12 : decode cX5_checkLow 12 = .ok (.bipush 8, 2) := dk_16 8 (dk_at dksX5_checkLow_0 12 rfl rfl)
theorem dX5_checkLow_14 : decode cX5_checkLow 14 = .ok (.aload_n 0, 1) := dk_42 (dk_at dksX5_checkLow_0 14 rfl rfl)
theorem dX5_checkLow_15 : decode cX5_checkLow 15 = .ok (.getfield 18, 3) := dk_180 0 18 (dk_at dksX5_checkLow_0 15 rfl rfl)
theorem dX5_checkLow_18 : decode cX5_checkLow 18 = .ok (.invokestatic 49, 3) := dk_184 0 49 (dk_at dksX5_checkLow_0 18 rfl rfl)
theorem dX5_checkLow_21 : decode cX5_checkLow 21 = .ok (.return_, 1) := dk_177 (dk_at dksX5_checkLow_0 21 rfl rfl)
abbrev cX5_carries : ByteArray := prog_2_method_10_code
def yX5_carries : MethodName := ⟨RX5, "carries", "(LCurtainRiggers$Curtain;I)V"⟩
def dkwX5_carries_1 : List UInt8 := [181, 0, 24, 43, 28, 158, 0, 10, 42, 180, 0, 9, 167, 0, 4, 2, 181, 0, 60, 177]
abbrev dktX5_carries_1 : List UInt8 := dkwX5_carries_1 ++ []
def dkwX5_carries_0 : List UInt8 := [42, 89, 180, 0, 21, 28, 43, 180, 0, 55, 104, 96, 181, 0, 21, 42, 89, 180, 0, 24, 28, 96]
abbrev dktX5_carries_0 : List UInt8 := dkwX5_carries_0 ++ dktX5_carries_1
theorem dksX5_carries_0 : cX5_carries.data.toList.drop 0 = dktX5_carries_0 := by decide +kernel
theorem dksX5_carries_1 : cX5_carries.data.toList.drop 22 = dktX5_carries_1 := dk_seg dksX5_carries_0 22 rfl rfl
theorem dX5_carries_0 : decode cX5_carries 0 = .ok (.aload_n 0, 1) := dk_42 (dk_at dksX5_carries_0 0 rfl rfl)
theorem dX5_carries_1 : decode cX5_carries 1 = .ok (.dup, 1) := dk_89 (dk_at dksX5_carries_0 1 rfl rfl)
theorem dX5_carries_2 : decode cX5_carries 2 = .ok (.getfield 21, 3) := dk_180 0 21 (dk_at dksX5_carries_0 2 rfl rfl)
theorem dX5_carries_5 : decode cX5_carries 5 = .ok (.iload_n 2, 1) := dk_28 (dk_at dksX5_carries_0 5 rfl rfl)
theorem dX5_carries_6 : decode cX5_carries 6 = .ok (.aload_n 1, 1) := dk_43 (dk_at dksX5_carries_0 6 rfl rfl)
theorem dX5_carries_7 : decode cX5_carries 7 = .ok (.getfield 55, 3) := dk_180 0 55 (dk_at dksX5_carries_0 7 rfl rfl)
theorem dX5_carries_10 : decode cX5_carries 10 = .ok (.imul, 1) := dk_104 (dk_at dksX5_carries_0 10 rfl rfl)
theorem dX5_carries_11 : decode cX5_carries 11 = .ok (.iadd, 1) := dk_96 (dk_at dksX5_carries_0 11 rfl rfl)
theorem dX5_carries_12 : decode cX5_carries 12 = .ok (.putfield 21, 3) := dk_181 0 21 (dk_at dksX5_carries_0 12 rfl rfl)
theorem dX5_carries_15 : decode cX5_carries 15 = .ok (.aload_n 0, 1) := dk_42 (dk_at dksX5_carries_0 15 rfl rfl)
theorem dX5_carries_16 : decode cX5_carries 16 = .ok (.dup, 1) := dk_89 (dk_at dksX5_carries_0 16 rfl rfl)
theorem dX5_carries_17 : decode cX5_carries 17 = .ok (.getfield 24, 3) := dk_180 0 24 (dk_at dksX5_carries_0 17 rfl rfl)
theorem dX5_carries_20 : decode cX5_carries 20 = .ok (.iload_n 2, 1) := dk_28 (dk_at dksX5_carries_0 20 rfl rfl)
theorem dX5_carries_21 : decode cX5_carries 21 = .ok (.iadd, 1) := dk_96 (dk_at dksX5_carries_0 21 rfl rfl)
theorem dX5_carries_22 : decode cX5_carries 22 = .ok (.putfield 24, 3) := dk_181 0 24 (dk_at dksX5_carries_1 0 rfl rfl)
theorem dX5_carries_25 : decode cX5_carries 25 = .ok (.aload_n 1, 1) := dk_43 (dk_at dksX5_carries_1 3 rfl rfl)
theorem dX5_carries_26 : decode cX5_carries 26 = .ok (.iload_n 2, 1) := dk_28 (dk_at dksX5_carries_1 4 rfl rfl)
theorem dX5_carries_27 : decode cX5_carries 27 = .ok (.ifCond .le 10, 3) := dk_158 0 10 (dk_at dksX5_carries_1 5 rfl rfl)
theorem dX5_carries_30 : decode cX5_carries 30 = .ok (.aload_n 0, 1) := dk_42 (dk_at dksX5_carries_1 8 rfl rfl)
theorem dX5_carries_31 : decode cX5_carries 31 = .ok (.getfield 9, 3) := dk_180 0 9 (dk_at dksX5_carries_1 9 rfl rfl)
theorem dX5_carries_34 : decode cX5_carries 34 = .ok (.goto 4, 3) := dk_167 0 4 (dk_at dksX5_carries_1 12 rfl rfl)
theorem dX5_carries_37 : decode cX5_carries 37 = .ok (.iconst (-1), 1) := dk_2 (dk_at dksX5_carries_1 15 rfl rfl)
theorem dX5_carries_38 : decode cX5_carries 38 = .ok (.putfield 60, 3) := dk_181 0 60 (dk_at dksX5_carries_1 16 rfl rfl)
theorem dX5_carries_41 : decode cX5_carries 41 = .ok (.return_, 1) := dk_177 (dk_at dksX5_carries_1 19 rfl rfl)
abbrev cX5_bestWeights : ByteArray := prog_2_method_11_code
def yX5_bestWeights : MethodName := ⟨RX5, "bestWeights", "()I"⟩
def dkwX5_bestWeights_1 : List UInt8 := [162, 0, 7, 28, 167, 0, 4, 27, 60, 132, 2, 1, 167, 255, 226, 27, 172]
abbrev dktX5_bestWeights_1 : List UInt8 := dkwX5_bestWeights_1 ++ []
def dkwX5_bestWeights_0 : List UInt8 := [3, 60, 4, 61, 28, 16, 20, 163, 0, 30, 42, 3, 28, 182, 0, 42, 42, 3, 27, 182, 0, 42]
abbrev dktX5_bestWeights_0 : List UInt8 := dkwX5_bestWeights_0 ++ dktX5_bestWeights_1
theorem dksX5_bestWeights_0 : cX5_bestWeights.data.toList.drop 0 = dktX5_bestWeights_0 := by decide +kernel
theorem dksX5_bestWeights_1 : cX5_bestWeights.data.toList.drop 22 = dktX5_bestWeights_1 := dk_seg dksX5_bestWeights_0 22 rfl rfl
theorem dX5_bestWeights_0 : decode cX5_bestWeights 0 = .ok (.iconst 0, 1) := dk_3 (dk_at dksX5_bestWeights_0 0 rfl rfl)
theorem dX5_bestWeights_1 : decode cX5_bestWeights 1 = .ok (.istore_n 1, 1) := dk_60 (dk_at dksX5_bestWeights_0 1 rfl rfl)
theorem dX5_bestWeights_2 : decode cX5_bestWeights 2 = .ok (.iconst 1, 1) := dk_4 (dk_at dksX5_bestWeights_0 2 rfl rfl)
theorem dX5_bestWeights_3 : decode cX5_bestWeights 3 = .ok (.istore_n 2, 1) := dk_61 (dk_at dksX5_bestWeights_0 3 rfl rfl)
theorem dX5_bestWeights_4 : decode cX5_bestWeights 4 = .ok (.iload_n 2, 1) := dk_28 (dk_at dksX5_bestWeights_0 4 rfl rfl)
theorem dX5_bestWeights_5 : decode cX5_bestWeights 5 = .ok (.bipush 20, 2) := dk_16 20 (dk_at dksX5_bestWeights_0 5 rfl rfl)
theorem dX5_bestWeights_7 : decode cX5_bestWeights 7 = .ok (.if_icmp .gt 30, 3) := dk_163 0 30 (dk_at dksX5_bestWeights_0 7 rfl rfl)
theorem dX5_bestWeights_10 : decode cX5_bestWeights 10 = .ok (.aload_n 0, 1) := dk_42 (dk_at dksX5_bestWeights_0 10 rfl rfl)
theorem dX5_bestWeights_11 : decode cX5_bestWeights 11 = .ok (.iconst 0, 1) := dk_3 (dk_at dksX5_bestWeights_0 11 rfl rfl)
theorem dX5_bestWeights_12 : decode cX5_bestWeights 12 = .ok (.iload_n 2, 1) := dk_28 (dk_at dksX5_bestWeights_0 12 rfl rfl)
theorem dX5_bestWeights_13 : decode cX5_bestWeights 13 = .ok (.invokevirtual 42, 3) := dk_182 0 42 (dk_at dksX5_bestWeights_0 13 rfl rfl)
theorem dX5_bestWeights_16 : decode cX5_bestWeights 16 = .ok (.aload_n 0, 1) := dk_42 (dk_at dksX5_bestWeights_0 16 rfl rfl)
theorem dX5_bestWeights_17 : decode cX5_bestWeights 17 = .ok (.iconst 0, 1) := dk_3 (dk_at dksX5_bestWeights_0 17 rfl rfl)
theorem dX5_bestWeights_18 : decode cX5_bestWeights 18 = .ok (.iload_n 1, 1) := dk_27 (dk_at dksX5_bestWeights_0 18 rfl rfl)
theorem dX5_bestWeights_19 : decode cX5_bestWeights 19 = .ok (.invokevirtual 42, 3) := dk_182 0 42 (dk_at dksX5_bestWeights_0 19 rfl rfl)
theorem dX5_bestWeights_22 : decode cX5_bestWeights 22 = .ok (.if_icmp .ge 7, 3) := dk_162 0 7 (dk_at dksX5_bestWeights_1 0 rfl rfl)
theorem dX5_bestWeights_25 : decode cX5_bestWeights 25 = .ok (.iload_n 2, 1) := dk_28 (dk_at dksX5_bestWeights_1 3 rfl rfl)
theorem dX5_bestWeights_26 : decode cX5_bestWeights 26 = .ok (.goto 4, 3) := dk_167 0 4 (dk_at dksX5_bestWeights_1 4 rfl rfl)
theorem dX5_bestWeights_29 : decode cX5_bestWeights 29 = .ok (.iload_n 1, 1) := dk_27 (dk_at dksX5_bestWeights_1 7 rfl rfl)
theorem dX5_bestWeights_30 : decode cX5_bestWeights 30 = .ok (.istore_n 1, 1) := dk_60 (dk_at dksX5_bestWeights_1 8 rfl rfl)
theorem dX5_bestWeights_31 : decode cX5_bestWeights 31 = .ok (.iinc 2 1, 3) := dk_132 2 1 (dk_at dksX5_bestWeights_1 9 rfl rfl)
theorem dX5_bestWeights_34 : decode cX5_bestWeights 34 = .ok (.goto (-30), 3) := dk_167 255 226 (dk_at dksX5_bestWeights_1 12 rfl rfl)
theorem dX5_bestWeights_37 : decode cX5_bestWeights 37 = .ok (.iload_n 1, 1) := dk_27 (dk_at dksX5_bestWeights_1 15 rfl rfl)
theorem dX5_bestWeights_38 : decode cX5_bestWeights 38 = .ok (.ireturn, 1) := dk_172 (dk_at dksX5_bestWeights_1 16 rfl rfl)
theorem q88 : (Jvm.Cond.initialized "CurtainRiggers$Bar") ∈ lw_all := lw_g (lw_at lw_m1 20 rfl) rfl
theorem q513 : (Jvm.Cond.castable "CurtainRiggers$Bar" "CurtainRiggers$Numbered") ∈ lw_tbl := lw_at lw_m2 205 rfl
theorem q514 : (Jvm.Cond.selects "CurtainRiggers$Bar" ({ cls := "CurtainRiggers$Numbered", name := "copy", desc := "()LCurtainRiggers$Numbered;" } : Jvm.MethodName) ({ cls := "CurtainRiggers$Bar", name := "copy", desc := "()LCurtainRiggers$Numbered;" } : Jvm.MethodName)) ∈ lw_all := lw_g (lw_at lw_m2 206 rfl) rfl
theorem q515 : (Jvm.Cond.unhidden "CurtainRiggers$Bar" "copy" "()LCurtainRiggers$Numbered;") ∈ lw_tbl := lw_at lw_m2 207 rfl
theorem q516 : (Jvm.Cond.instanceMethod ({ cls := "CurtainRiggers$Bar", name := "copy", desc := "()LCurtainRiggers$Numbered;" } : Jvm.MethodName)) ∈ lw_all := lw_g (lw_at lw_m2 208 rfl) rfl
theorem q517 : (Jvm.Cond.publicMethod ({ cls := "CurtainRiggers$Bar", name := "copy", desc := "()LCurtainRiggers$Numbered;" } : Jvm.MethodName)) ∈ lw_tbl := lw_at lw_m2 209 rfl
theorem q518 : (Jvm.Cond.code ({ cls := "CurtainRiggers$Bar", name := "copy", desc := "()LCurtainRiggers$Numbered;" } : Jvm.MethodName) prog_2_method_12_code (1 : Nat) (Option.some (Jvm.ClassFile.FieldType.object "CurtainRiggers$Numbered"))) ∈ lw_all := lw_g (lw_at lw_m2 210 rfl) rfl
theorem q519 : (Jvm.Cond.methodLink "CurtainRiggers$Bar" (63 : Nat) ({ cls := "CurtainRiggers$Bar", name := "copy", desc := "()LCurtainRiggers$Bar;" } : Jvm.MethodName)) ∈ lw_all := lw_g (lw_at lw_m2 211 rfl) rfl
theorem q520 : (Jvm.Cond.instanceMethod ({ cls := "CurtainRiggers$Bar", name := "copy", desc := "()LCurtainRiggers$Bar;" } : Jvm.MethodName)) ∈ lw_all := lw_g (lw_at lw_m2 212 rfl) rfl
theorem q521 : (Jvm.Cond.selects "CurtainRiggers$Bar" ({ cls := "CurtainRiggers$Bar", name := "copy", desc := "()LCurtainRiggers$Bar;" } : Jvm.MethodName) ({ cls := "CurtainRiggers$Bar", name := "copy", desc := "()LCurtainRiggers$Bar;" } : Jvm.MethodName)) ∈ lw_all := lw_g (lw_at lw_m2 213 rfl) rfl
theorem q522 : (Jvm.Cond.code ({ cls := "CurtainRiggers$Bar", name := "copy", desc := "()LCurtainRiggers$Bar;" } : Jvm.MethodName) prog_2_method_3_code (2 : Nat) (Option.some (Jvm.ClassFile.FieldType.object "CurtainRiggers$Bar"))) ∈ lw_all := lw_g (lw_at lw_m2 214 rfl) rfl
theorem q523 : (Jvm.Cond.classLink "CurtainRiggers$Bar" (10 : Nat) "CurtainRiggers$Bar") ∈ lw_all := lw_g (lw_at lw_m2 215 rfl) rfl
theorem q524 : (Jvm.Cond.instantiable "CurtainRiggers$Bar" (7 : Nat)) ∈ lw_all := lw_g (lw_at lw_m2 216 rfl) rfl
theorem q525 : (Jvm.Cond.methodLink "CurtainRiggers$Bar" (15 : Nat) ({ cls := "CurtainRiggers$Bar", name := "<init>", desc := "(I)V" } : Jvm.MethodName)) ∈ lw_all := lw_g (lw_at lw_m2 217 rfl) rfl
theorem q526 : (Jvm.Cond.instanceMethod ({ cls := "CurtainRiggers$Bar", name := "<init>", desc := "(I)V" } : Jvm.MethodName)) ∈ lw_all := lw_g (lw_at lw_m2 218 rfl) rfl
theorem q527 : (Jvm.Cond.code ({ cls := "CurtainRiggers$Bar", name := "<init>", desc := "(I)V" } : Jvm.MethodName) prog_2_method_1_code (2 : Nat) (Option.none : Option Jvm.ClassFile.FieldType)) ∈ lw_all := lw_g (lw_at lw_m2 219 rfl) rfl
theorem q528 : (Jvm.Cond.methodLink "CurtainRiggers$Bar" (3 : Nat) ({ cls := "java/lang/Object", name := "<init>", desc := "()V" } : Jvm.MethodName)) ∈ lw_all := lw_g (lw_at lw_m2 220 rfl) rfl
theorem q529 : (Jvm.Cond.fieldLink "CurtainRiggers$Bar" (9 : Nat) "CurtainRiggers$Bar" "number" "I") ∈ lw_all := lw_g (lw_at lw_m2 221 rfl) rfl
theorem q534 : (Jvm.Cond.fieldLink "CurtainRiggers$Bar" (18 : Nat) "CurtainRiggers$Bar" "height" "I") ∈ lw_all := lw_g (lw_at lw_m2 226 rfl) rfl
theorem q538 : (Jvm.Cond.fieldLink "CurtainRiggers$Bar" (21 : Nat) "CurtainRiggers$Bar" "load" "I") ∈ lw_all := lw_g (lw_at lw_m2 230 rfl) rfl
theorem q541 : (Jvm.Cond.fieldLink "CurtainRiggers$Bar" (24 : Nat) "CurtainRiggers$Bar" "curtains" "I") ∈ lw_all := lw_g (lw_at lw_m2 233 rfl) rfl
theorem q545 : (Jvm.Cond.fieldLink "CurtainRiggers$Bar" (27 : Nat) "CurtainRiggers$Bar" "weights" "I") ∈ lw_all := lw_g (lw_at lw_m2 237 rfl) rfl
theorem q549 : (Jvm.Cond.fieldLink "CurtainRiggers$Bar" (30 : Nat) "CurtainRiggers$Bar" "years" "I") ∈ lw_all := lw_g (lw_at lw_m3 1 rfl) rfl
theorem q553 : (Jvm.Cond.fieldLink "CurtainRiggers$Bar" (33 : Nat) "CurtainRiggers$Bar" "flown" "I") ∈ lw_all := lw_g (lw_at lw_m3 5 rfl) rfl
theorem q556 : (Jvm.Cond.laysFinal "CurtainRiggers$Bar" "CurtainRiggers$Bar" "number" "I") ∈ lw_all := lw_g (lw_at lw_m3 8 rfl) rfl
theorem q557 : (Jvm.Cond.soleField "CurtainRiggers$Bar" "number") ∈ lw_all := lw_g (lw_at lw_m3 9 rfl) rfl
theorem q558 : (Jvm.Cond.lays "CurtainRiggers$Bar" "CurtainRiggers$Bar" "height" "I") ∈ lw_all := lw_g (lw_at lw_m3 10 rfl) rfl
theorem q559 : (Jvm.Cond.soleField "CurtainRiggers$Bar" "height") ∈ lw_all := lw_g (lw_at lw_m3 11 rfl) rfl
theorem q560 : (Jvm.Cond.lays "CurtainRiggers$Bar" "CurtainRiggers$Bar" "load" "I") ∈ lw_all := lw_g (lw_at lw_m3 12 rfl) rfl
theorem q561 : (Jvm.Cond.soleField "CurtainRiggers$Bar" "load") ∈ lw_all := lw_g (lw_at lw_m3 13 rfl) rfl
theorem q562 : (Jvm.Cond.lays "CurtainRiggers$Bar" "CurtainRiggers$Bar" "curtains" "I") ∈ lw_all := lw_g (lw_at lw_m3 14 rfl) rfl
theorem q563 : (Jvm.Cond.soleField "CurtainRiggers$Bar" "curtains") ∈ lw_all := lw_g (lw_at lw_m3 15 rfl) rfl
theorem q564 : (Jvm.Cond.lays "CurtainRiggers$Bar" "CurtainRiggers$Bar" "weights" "I") ∈ lw_all := lw_g (lw_at lw_m3 16 rfl) rfl
theorem q565 : (Jvm.Cond.soleField "CurtainRiggers$Bar" "weights") ∈ lw_all := lw_g (lw_at lw_m3 17 rfl) rfl
theorem q566 : (Jvm.Cond.lays "CurtainRiggers$Bar" "CurtainRiggers$Bar" "years" "I") ∈ lw_all := lw_g (lw_at lw_m3 18 rfl) rfl
theorem q567 : (Jvm.Cond.soleField "CurtainRiggers$Bar" "years") ∈ lw_all := lw_g (lw_at lw_m3 19 rfl) rfl
theorem q568 : (Jvm.Cond.lays "CurtainRiggers$Bar" "CurtainRiggers$Bar" "flown" "I") ∈ lw_all := lw_g (lw_at lw_m3 20 rfl) rfl
theorem q569 : (Jvm.Cond.soleField "CurtainRiggers$Bar" "flown") ∈ lw_all := lw_g (lw_at lw_m3 21 rfl) rfl
theorem q570 : (Jvm.Cond.superclass "CurtainRiggers$Bar" "java/lang/Object") ∈ lw_all := lw_g (lw_at lw_m3 22 rfl) rfl
theorem q602 : (Jvm.Cond.fieldLinkNest "CurtainRiggers$Bar" (55 : Nat) "CurtainRiggers$Curtain" "weight" "I" "CurtainRiggers") ∈ lw_tbl := lw_at lw_m3 54 rfl
theorem q605 : (Jvm.Cond.fieldLinkNest "CurtainRiggers$Bar" (60 : Nat) "CurtainRiggers$Curtain" "bar" "I" "CurtainRiggers") ∈ lw_tbl := lw_at lw_m3 57 rfl
theorem q677 : (Jvm.Cond.selects "CurtainRiggers$Bar" ({ cls := "java/lang/Object", name := "getClass", desc := "()Ljava/lang/Class;" } : Jvm.MethodName) ({ cls := "java/lang/Object", name := "getClass", desc := "()Ljava/lang/Class;" } : Jvm.MethodName)) ∈ lw_all := lw_g (lw_at lw_m3 129 rfl) rfl
theorem q781 : (Jvm.Cond.selects "CurtainRiggers$Bar" ({ cls := "CurtainRiggers$Numbered", name := "number", desc := "()I" } : Jvm.MethodName) ({ cls := "CurtainRiggers$Bar", name := "number", desc := "()I" } : Jvm.MethodName)) ∈ lw_all := lw_g (lw_at lw_m3 233 rfl) rfl
theorem q782 : (Jvm.Cond.unhidden "CurtainRiggers$Bar" "number" "()I") ∈ lw_tbl := lw_at lw_m3 234 rfl
theorem q783 : (Jvm.Cond.instanceMethod ({ cls := "CurtainRiggers$Bar", name := "number", desc := "()I" } : Jvm.MethodName)) ∈ lw_all := lw_g (lw_at lw_m3 235 rfl) rfl
theorem q784 : (Jvm.Cond.publicMethod ({ cls := "CurtainRiggers$Bar", name := "number", desc := "()I" } : Jvm.MethodName)) ∈ lw_tbl := lw_at lw_m3 236 rfl
theorem q785 : (Jvm.Cond.code ({ cls := "CurtainRiggers$Bar", name := "number", desc := "()I" } : Jvm.MethodName) prog_2_method_2_code (1 : Nat) (Option.some Jvm.ClassFile.FieldType.int)) ∈ lw_all := lw_g (lw_at lw_m3 237 rfl) rfl
theorem q1126 : (Jvm.Cond.instanceMethod ({ cls := "CurtainRiggers$Bar", name := "outBy", desc := "(II)I" } : Jvm.MethodName)) ∈ lw_all := lw_g (lw_at lw_m5 98 rfl) rfl
theorem q1127 : (Jvm.Cond.selects "CurtainRiggers$Bar" ({ cls := "CurtainRiggers$Bar", name := "outBy", desc := "(II)I" } : Jvm.MethodName) ({ cls := "CurtainRiggers$Bar", name := "outBy", desc := "(II)I" } : Jvm.MethodName)) ∈ lw_all := lw_g (lw_at lw_m5 99 rfl) rfl
theorem q1128 : (Jvm.Cond.code ({ cls := "CurtainRiggers$Bar", name := "outBy", desc := "(II)I" } : Jvm.MethodName) prog_2_method_5_code (3 : Nat) (Option.some Jvm.ClassFile.FieldType.int)) ∈ lw_all := lw_g (lw_at lw_m5 100 rfl) rfl
theorem q1129 : (Jvm.Cond.methodLink "CurtainRiggers$Bar" (36 : Nat) ({ cls := "java/lang/Math", name := "abs", desc := "(I)I" } : Jvm.MethodName)) ∈ lw_all := lw_g (lw_at lw_m5 101 rfl) rfl
theorem q1132 : (Jvm.Cond.unhidden "CurtainRiggers$Bar" "isAheadByNumber" "(LCurtainRiggers$Numbered;)Z") ∈ lw_tbl := lw_at lw_m5 104 rfl
theorem q1185 : (Jvm.Cond.instanceMethod ({ cls := "CurtainRiggers$Bar", name := "outBy", desc := "()I" } : Jvm.MethodName)) ∈ lw_all := lw_g (lw_at lw_m5 157 rfl) rfl
theorem q1186 : (Jvm.Cond.selects "CurtainRiggers$Bar" ({ cls := "CurtainRiggers$Bar", name := "outBy", desc := "()I" } : Jvm.MethodName) ({ cls := "CurtainRiggers$Bar", name := "outBy", desc := "()I" } : Jvm.MethodName)) ∈ lw_all := lw_g (lw_at lw_m5 158 rfl) rfl
theorem q1187 : (Jvm.Cond.code ({ cls := "CurtainRiggers$Bar", name := "outBy", desc := "()I" } : Jvm.MethodName) prog_2_method_6_code (1 : Nat) (Option.some Jvm.ClassFile.FieldType.int)) ∈ lw_all := lw_g (lw_at lw_m5 159 rfl) rfl
theorem q1188 : (Jvm.Cond.methodLink "CurtainRiggers$Bar" (42 : Nat) ({ cls := "CurtainRiggers$Bar", name := "outBy", desc := "(II)I" } : Jvm.MethodName)) ∈ lw_all := lw_g (lw_at lw_m5 160 rfl) rfl
theorem q1190 : (Jvm.Cond.instanceMethod ({ cls := "CurtainRiggers$Bar", name := "onRope", desc := "()I" } : Jvm.MethodName)) ∈ lw_all := lw_g (lw_at lw_m5 162 rfl) rfl
theorem q1191 : (Jvm.Cond.selects "CurtainRiggers$Bar" ({ cls := "CurtainRiggers$Bar", name := "onRope", desc := "()I" } : Jvm.MethodName) ({ cls := "CurtainRiggers$Bar", name := "onRope", desc := "()I" } : Jvm.MethodName)) ∈ lw_all := lw_g (lw_at lw_m5 163 rfl) rfl
theorem q1192 : (Jvm.Cond.code ({ cls := "CurtainRiggers$Bar", name := "onRope", desc := "()I" } : Jvm.MethodName) prog_2_method_8_code (1 : Nat) (Option.some Jvm.ClassFile.FieldType.int)) ∈ lw_all := lw_g (lw_at lw_m5 164 rfl) rfl
theorem q1194 : (Jvm.Cond.instanceMethod ({ cls := "CurtainRiggers$Bar", name := "bears", desc := "()I" } : Jvm.MethodName)) ∈ lw_all := lw_g (lw_at lw_m5 166 rfl) rfl
theorem q1195 : (Jvm.Cond.selects "CurtainRiggers$Bar" ({ cls := "CurtainRiggers$Bar", name := "bears", desc := "()I" } : Jvm.MethodName) ({ cls := "CurtainRiggers$Bar", name := "bears", desc := "()I" } : Jvm.MethodName)) ∈ lw_all := lw_g (lw_at lw_m5 167 rfl) rfl
theorem q1196 : (Jvm.Cond.code ({ cls := "CurtainRiggers$Bar", name := "bears", desc := "()I" } : Jvm.MethodName) prog_2_method_7_code (1 : Nat) (Option.some Jvm.ClassFile.FieldType.int)) ∈ lw_all := lw_g (lw_at lw_m5 168 rfl) rfl
theorem q1197 : (Jvm.Cond.methodLink "CurtainRiggers$Bar" (46 : Nat) ({ cls := "java/lang/Math", name := "max", desc := "(II)I" } : Jvm.MethodName)) ∈ lw_all := lw_g (lw_at lw_m5 169 rfl) rfl
theorem q1199 : (Jvm.Cond.instanceMethod ({ cls := "CurtainRiggers$Bar", name := "floor", desc := "()I" } : Jvm.MethodName)) ∈ lw_all := lw_g (lw_at lw_m5 171 rfl) rfl
theorem q1200 : (Jvm.Cond.selects "CurtainRiggers$Bar" ({ cls := "CurtainRiggers$Bar", name := "floor", desc := "()I" } : Jvm.MethodName) ({ cls := "CurtainRiggers$Bar", name := "floor", desc := "()I" } : Jvm.MethodName)) ∈ lw_all := lw_g (lw_at lw_m5 172 rfl) rfl
theorem q1201 : (Jvm.Cond.code ({ cls := "CurtainRiggers$Bar", name := "floor", desc := "()I" } : Jvm.MethodName) prog_2_method_4_code (1 : Nat) (Option.some Jvm.ClassFile.FieldType.int)) ∈ lw_all := lw_g (lw_at lw_m5 173 rfl) rfl
theorem q1477 : (Jvm.Cond.instanceMethod ({ cls := "CurtainRiggers$Bar", name := "checkLow", desc := "()V" } : Jvm.MethodName)) ∈ lw_all := lw_g (lw_at lw_m6 209 rfl) rfl
theorem q1478 : (Jvm.Cond.selects "CurtainRiggers$Bar" ({ cls := "CurtainRiggers$Bar", name := "checkLow", desc := "()V" } : Jvm.MethodName) ({ cls := "CurtainRiggers$Bar", name := "checkLow", desc := "()V" } : Jvm.MethodName)) ∈ lw_all := lw_g (lw_at lw_m6 210 rfl) rfl
theorem q1479 : (Jvm.Cond.code ({ cls := "CurtainRiggers$Bar", name := "checkLow", desc := "()V" } : Jvm.MethodName) prog_2_method_9_code (1 : Nat) (Option.none : Option Jvm.ClassFile.FieldType)) ∈ lw_all := lw_g (lw_at lw_m6 211 rfl) rfl
theorem q1480 : (Jvm.Cond.methodLink "CurtainRiggers$Bar" (49 : Nat) ({ cls := "CurtainRiggers$Refused", name := "check", desc := "(ZII)V" } : Jvm.MethodName)) ∈ lw_all := lw_g (lw_at lw_m6 212 rfl) rfl
theorem q1482 : (Jvm.Cond.instanceMethod ({ cls := "CurtainRiggers$Bar", name := "carries", desc := "(LCurtainRiggers$Curtain;I)V" } : Jvm.MethodName)) ∈ lw_all := lw_g (lw_at lw_m6 214 rfl) rfl
theorem q1483 : (Jvm.Cond.selects "CurtainRiggers$Bar" ({ cls := "CurtainRiggers$Bar", name := "carries", desc := "(LCurtainRiggers$Curtain;I)V" } : Jvm.MethodName) ({ cls := "CurtainRiggers$Bar", name := "carries", desc := "(LCurtainRiggers$Curtain;I)V" } : Jvm.MethodName)) ∈ lw_all := lw_g (lw_at lw_m6 215 rfl) rfl
theorem q1484 : (Jvm.Cond.code ({ cls := "CurtainRiggers$Bar", name := "carries", desc := "(LCurtainRiggers$Curtain;I)V" } : Jvm.MethodName) prog_2_method_10_code (3 : Nat) (Option.none : Option Jvm.ClassFile.FieldType)) ∈ lw_all := lw_g (lw_at lw_m6 216 rfl) rfl
theorem q1770 : (Jvm.Cond.instanceMethod ({ cls := "CurtainRiggers$Bar", name := "bestWeights", desc := "()I" } : Jvm.MethodName)) ∈ lw_all := lw_g (lw_at lw_m8 22 rfl) rfl
theorem q1771 : (Jvm.Cond.selects "CurtainRiggers$Bar" ({ cls := "CurtainRiggers$Bar", name := "bestWeights", desc := "()I" } : Jvm.MethodName) ({ cls := "CurtainRiggers$Bar", name := "bestWeights", desc := "()I" } : Jvm.MethodName)) ∈ lw_all := lw_g (lw_at lw_m8 23 rfl) rfl
theorem q1772 : (Jvm.Cond.code ({ cls := "CurtainRiggers$Bar", name := "bestWeights", desc := "()I" } : Jvm.MethodName) prog_2_method_11_code (3 : Nat) (Option.some Jvm.ClassFile.FieldType.int)) ∈ lw_all := lw_g (lw_at lw_m8 24 rfl) rfl
theorem q2724 : (Jvm.Cond.castable "CurtainRiggers$Bar" "java/lang/Object") ∈ lw_tbl := lw_at lw_m12 16 rfl
theorem in_X5 : ∀ w ∈ wsX50, w ∈ lw_all := lw_in wsX50 [556, 558, 560, 562, 564, 566, 568] (by decide +kernel) (by decide +kernel)

/-! CurtainRiggers$Curtain -/
set_option maxRecDepth 100000
def RX6 : String := "CurtainRiggers$Curtain"
def TX6 : u_T := fun k => match k with
  | 0 => ("CurtainRiggers$Curtain", "number", "I", true)
  | 1 => ("CurtainRiggers$Curtain", "weight", "I", true)
  | _ => ("CurtainRiggers$Curtain", "bar", "I", false)
def tyX6 : Nat → FieldType := fun k => match k with
  | 0 => .int
  | 1 => .int
  | _ => .int
abbrev wsX60 : List Cond := u_ws RX6 TX6 3
theorem nmX6 : ∀ a, a < 3 → ∀ b, b < 3 → a ≠ b → (TX6 a).2.1 ≠ (TX6 b).2.1 := by decide +kernel
theorem tyX6_ok : ∀ k, k < 3 → parseFieldDescriptor (TX6 k).2.2.1 = some (tyX6 k) := by decide +kernel
abbrev cX6_copy : ByteArray := prog_8_method_4_code
def yX6_copy : MethodName := ⟨RX6, "copy", "()LCurtainRiggers$Numbered;"⟩
theorem dX6_copy_0 : decode cX6_copy 0 = .ok (.aload_n 0, 1) := by decide +kernel
theorem dX6_copy_1 : decode cX6_copy 1 = .ok (.invokevirtual 24, 3) := by decide +kernel
theorem dX6_copy_4 : decode cX6_copy 4 = .ok (.areturn, 1) := by decide +kernel
abbrev cX6_copy_2 : ByteArray := prog_8_method_3_code
def yX6_copy_2 : MethodName := ⟨RX6, "copy", "()LCurtainRiggers$Curtain;"⟩
def dkwX6_copy_2_1 : List UInt8 := [43, 176]
abbrev dktX6_copy_2_1 : List UInt8 := dkwX6_copy_2_1 ++ []
def dkwX6_copy_2_0 : List UInt8 := [187, 0, 10, 89, 42, 180, 0, 15, 42, 180, 0, 18, 183, 0, 21, 76, 43, 42, 180, 0, 9, 181, 0, 9]
abbrev dktX6_copy_2_0 : List UInt8 := dkwX6_copy_2_0 ++ dktX6_copy_2_1
theorem dksX6_copy_2_0 : cX6_copy_2.data.toList.drop 0 = dktX6_copy_2_0 := by decide +kernel
theorem dksX6_copy_2_1 : cX6_copy_2.data.toList.drop 24 = dktX6_copy_2_1 := dk_seg dksX6_copy_2_0 24 rfl rfl
theorem dX6_copy_2_0 : decode cX6_copy_2 0 = .ok (.new 10, 3) := dk_187 0 10 (dk_at dksX6_copy_2_0 0 rfl rfl)
theorem dX6_copy_2_3 : decode cX6_copy_2 3 = .ok (.dup, 1) := dk_89 (dk_at dksX6_copy_2_0 3 rfl rfl)
theorem dX6_copy_2_4 : decode cX6_copy_2 4 = .ok (.aload_n 0, 1) := dk_42 (dk_at dksX6_copy_2_0 4 rfl rfl)
theorem dX6_copy_2_5 : decode cX6_copy_2 5 = .ok (.getfield 15, 3) := dk_180 0 15 (dk_at dksX6_copy_2_0 5 rfl rfl)
theorem dX6_copy_2_8 : decode cX6_copy_2 8 = .ok (.aload_n 0, 1) := dk_42 (dk_at dksX6_copy_2_0 8 rfl rfl)
theorem dX6_copy_2_9 : decode cX6_copy_2 9 = .ok (.getfield 18, 3) := dk_180 0 18 (dk_at dksX6_copy_2_0 9 rfl rfl)
theorem dX6_copy_2_12 : decode cX6_copy_2 12 = .ok (.invokespecial 21, 3) := dk_183 0 21 (dk_at dksX6_copy_2_0 12 rfl rfl)
theorem dX6_copy_2_15 : decode cX6_copy_2 15 = .ok (.astore_n 1, 1) := dk_76 (dk_at dksX6_copy_2_0 15 rfl rfl)
theorem dX6_copy_2_16 : decode cX6_copy_2 16 = .ok (.aload_n 1, 1) := dk_43 (dk_at dksX6_copy_2_0 16 rfl rfl)
theorem dX6_copy_2_17 : decode cX6_copy_2 17 = .ok (.aload_n 0, 1) := dk_42 (dk_at dksX6_copy_2_0 17 rfl rfl)
theorem dX6_copy_2_18 : decode cX6_copy_2 18 = .ok (.getfield 9, 3) := dk_180 0 9 (dk_at dksX6_copy_2_0 18 rfl rfl)
theorem dX6_copy_2_21 : decode cX6_copy_2 21 = .ok (.putfield 9, 3) := dk_181 0 9 (dk_at dksX6_copy_2_0 21 rfl rfl)
theorem dX6_copy_2_24 : decode cX6_copy_2 24 = .ok (.aload_n 1, 1) := dk_43 (dk_at dksX6_copy_2_1 0 rfl rfl)
theorem dX6_copy_2_25 : decode cX6_copy_2 25 = .ok (.areturn, 1) := dk_176 (dk_at dksX6_copy_2_1 1 rfl rfl)
abbrev cX6_init : ByteArray := prog_8_method_1_code
def yX6_init : MethodName := ⟨RX6, "<init>", "(II)V"⟩
def dkwX6_init_0 : List UInt8 := [42, 183, 0, 3, 42, 2, 181, 0, 9, 42, 27, 181, 0, 15, 42, 28, 181, 0, 18, 177]
abbrev dktX6_init_0 : List UInt8 := dkwX6_init_0 ++ []
theorem dksX6_init_0 : cX6_init.data.toList.drop 0 = dktX6_init_0 := by decide +kernel
theorem dX6_init_0 : decode cX6_init 0 = .ok (.aload_n 0, 1) := dk_42 (dk_at dksX6_init_0 0 rfl rfl)
theorem dX6_init_1 : decode cX6_init 1 = .ok (.invokespecial 3, 3) := dk_183 0 3 (dk_at dksX6_init_0 1 rfl rfl)
theorem dX6_init_4 : decode cX6_init 4 = .ok (.aload_n 0, 1) := dk_42 (dk_at dksX6_init_0 4 rfl rfl)
theorem dX6_init_5 : decode cX6_init 5 = .ok (.iconst (-1), 1) := dk_2 (dk_at dksX6_init_0 5 rfl rfl)
theorem dX6_init_6 : decode cX6_init 6 = .ok (.putfield 9, 3) := dk_181 0 9 (dk_at dksX6_init_0 6 rfl rfl)
theorem dX6_init_9 : decode cX6_init 9 = .ok (.aload_n 0, 1) := dk_42 (dk_at dksX6_init_0 9 rfl rfl)
theorem dX6_init_10 : decode cX6_init 10 = .ok (.iload_n 1, 1) := dk_27 (dk_at dksX6_init_0 10 rfl rfl)
theorem dX6_init_11 : decode cX6_init 11 = .ok (.putfield 15, 3) := dk_181 0 15 (dk_at dksX6_init_0 11 rfl rfl)
theorem dX6_init_14 : decode cX6_init 14 = .ok (.aload_n 0, 1) := dk_42 (dk_at dksX6_init_0 14 rfl rfl)
theorem dX6_init_15 : decode cX6_init 15 = .ok (.iload_n 2, 1) := dk_28 (dk_at dksX6_init_0 15 rfl rfl)
theorem dX6_init_16 : decode cX6_init 16 = .ok (.putfield 18, 3) := dk_181 0 18 (dk_at dksX6_init_0 16 rfl rfl)
theorem dX6_init_19 : decode cX6_init 19 = .ok (.return_, 1) := dk_177 (dk_at dksX6_init_0 19 rfl rfl)
abbrev cX6_number : ByteArray := prog_8_method_2_code
def yX6_number : MethodName := ⟨RX6, "number", "()I"⟩
theorem dX6_number_0 : decode cX6_number 0 = .ok (.aload_n 0, 1) := by decide +kernel
theorem dX6_number_1 : decode cX6_number 1 = .ok (.getfield 15, 3) := by decide +kernel
theorem dX6_number_4 : decode cX6_number 4 = .ok (.ireturn, 1) := by decide +kernel
theorem q89 : (Jvm.Cond.initialized "CurtainRiggers$Curtain") ∈ lw_all := lw_g (lw_at lw_m1 21 rfl) rfl
theorem q581 : (Jvm.Cond.castable "CurtainRiggers$Curtain" "CurtainRiggers$Numbered") ∈ lw_tbl := lw_at lw_m3 33 rfl
theorem q582 : (Jvm.Cond.selects "CurtainRiggers$Curtain" ({ cls := "CurtainRiggers$Numbered", name := "copy", desc := "()LCurtainRiggers$Numbered;" } : Jvm.MethodName) ({ cls := "CurtainRiggers$Curtain", name := "copy", desc := "()LCurtainRiggers$Numbered;" } : Jvm.MethodName)) ∈ lw_all := lw_g (lw_at lw_m3 34 rfl) rfl
theorem q583 : (Jvm.Cond.unhidden "CurtainRiggers$Curtain" "copy" "()LCurtainRiggers$Numbered;") ∈ lw_tbl := lw_at lw_m3 35 rfl
theorem q584 : (Jvm.Cond.instanceMethod ({ cls := "CurtainRiggers$Curtain", name := "copy", desc := "()LCurtainRiggers$Numbered;" } : Jvm.MethodName)) ∈ lw_all := lw_g (lw_at lw_m3 36 rfl) rfl
theorem q585 : (Jvm.Cond.publicMethod ({ cls := "CurtainRiggers$Curtain", name := "copy", desc := "()LCurtainRiggers$Numbered;" } : Jvm.MethodName)) ∈ lw_tbl := lw_at lw_m3 37 rfl
theorem q586 : (Jvm.Cond.code ({ cls := "CurtainRiggers$Curtain", name := "copy", desc := "()LCurtainRiggers$Numbered;" } : Jvm.MethodName) prog_8_method_4_code (1 : Nat) (Option.some (Jvm.ClassFile.FieldType.object "CurtainRiggers$Numbered"))) ∈ lw_all := lw_g (lw_at lw_m3 38 rfl) rfl
theorem q587 : (Jvm.Cond.methodLink "CurtainRiggers$Curtain" (24 : Nat) ({ cls := "CurtainRiggers$Curtain", name := "copy", desc := "()LCurtainRiggers$Curtain;" } : Jvm.MethodName)) ∈ lw_all := lw_g (lw_at lw_m3 39 rfl) rfl
theorem q588 : (Jvm.Cond.instanceMethod ({ cls := "CurtainRiggers$Curtain", name := "copy", desc := "()LCurtainRiggers$Curtain;" } : Jvm.MethodName)) ∈ lw_all := lw_g (lw_at lw_m3 40 rfl) rfl
theorem q589 : (Jvm.Cond.selects "CurtainRiggers$Curtain" ({ cls := "CurtainRiggers$Curtain", name := "copy", desc := "()LCurtainRiggers$Curtain;" } : Jvm.MethodName) ({ cls := "CurtainRiggers$Curtain", name := "copy", desc := "()LCurtainRiggers$Curtain;" } : Jvm.MethodName)) ∈ lw_all := lw_g (lw_at lw_m3 41 rfl) rfl
theorem q590 : (Jvm.Cond.code ({ cls := "CurtainRiggers$Curtain", name := "copy", desc := "()LCurtainRiggers$Curtain;" } : Jvm.MethodName) prog_8_method_3_code (2 : Nat) (Option.some (Jvm.ClassFile.FieldType.object "CurtainRiggers$Curtain"))) ∈ lw_all := lw_g (lw_at lw_m3 42 rfl) rfl
theorem q591 : (Jvm.Cond.classLink "CurtainRiggers$Curtain" (10 : Nat) "CurtainRiggers$Curtain") ∈ lw_all := lw_g (lw_at lw_m3 43 rfl) rfl
theorem q592 : (Jvm.Cond.instantiable "CurtainRiggers$Curtain" (3 : Nat)) ∈ lw_all := lw_g (lw_at lw_m3 44 rfl) rfl
theorem q593 : (Jvm.Cond.methodLink "CurtainRiggers$Curtain" (21 : Nat) ({ cls := "CurtainRiggers$Curtain", name := "<init>", desc := "(II)V" } : Jvm.MethodName)) ∈ lw_all := lw_g (lw_at lw_m3 45 rfl) rfl
theorem q594 : (Jvm.Cond.instanceMethod ({ cls := "CurtainRiggers$Curtain", name := "<init>", desc := "(II)V" } : Jvm.MethodName)) ∈ lw_all := lw_g (lw_at lw_m3 46 rfl) rfl
theorem q595 : (Jvm.Cond.code ({ cls := "CurtainRiggers$Curtain", name := "<init>", desc := "(II)V" } : Jvm.MethodName) prog_8_method_1_code (3 : Nat) (Option.none : Option Jvm.ClassFile.FieldType)) ∈ lw_all := lw_g (lw_at lw_m3 47 rfl) rfl
theorem q596 : (Jvm.Cond.methodLink "CurtainRiggers$Curtain" (3 : Nat) ({ cls := "java/lang/Object", name := "<init>", desc := "()V" } : Jvm.MethodName)) ∈ lw_all := lw_g (lw_at lw_m3 48 rfl) rfl
theorem q597 : (Jvm.Cond.fieldLink "CurtainRiggers$Curtain" (15 : Nat) "CurtainRiggers$Curtain" "number" "I") ∈ lw_all := lw_g (lw_at lw_m3 49 rfl) rfl
theorem q600 : (Jvm.Cond.fieldLink "CurtainRiggers$Curtain" (18 : Nat) "CurtainRiggers$Curtain" "weight" "I") ∈ lw_all := lw_g (lw_at lw_m3 52 rfl) rfl
theorem q603 : (Jvm.Cond.fieldLink "CurtainRiggers$Curtain" (9 : Nat) "CurtainRiggers$Curtain" "bar" "I") ∈ lw_all := lw_g (lw_at lw_m3 55 rfl) rfl
theorem q608 : (Jvm.Cond.laysFinal "CurtainRiggers$Curtain" "CurtainRiggers$Curtain" "number" "I") ∈ lw_all := lw_g (lw_at lw_m3 60 rfl) rfl
theorem q609 : (Jvm.Cond.soleField "CurtainRiggers$Curtain" "number") ∈ lw_all := lw_g (lw_at lw_m3 61 rfl) rfl
theorem q610 : (Jvm.Cond.laysFinal "CurtainRiggers$Curtain" "CurtainRiggers$Curtain" "weight" "I") ∈ lw_all := lw_g (lw_at lw_m3 62 rfl) rfl
theorem q611 : (Jvm.Cond.soleField "CurtainRiggers$Curtain" "weight") ∈ lw_all := lw_g (lw_at lw_m3 63 rfl) rfl
theorem q612 : (Jvm.Cond.lays "CurtainRiggers$Curtain" "CurtainRiggers$Curtain" "bar" "I") ∈ lw_all := lw_g (lw_at lw_m3 64 rfl) rfl
theorem q613 : (Jvm.Cond.soleField "CurtainRiggers$Curtain" "bar") ∈ lw_all := lw_g (lw_at lw_m3 65 rfl) rfl
theorem q614 : (Jvm.Cond.superclass "CurtainRiggers$Curtain" "java/lang/Object") ∈ lw_all := lw_g (lw_at lw_m3 66 rfl) rfl
theorem q683 : (Jvm.Cond.selects "CurtainRiggers$Curtain" ({ cls := "java/lang/Object", name := "getClass", desc := "()Ljava/lang/Class;" } : Jvm.MethodName) ({ cls := "java/lang/Object", name := "getClass", desc := "()Ljava/lang/Class;" } : Jvm.MethodName)) ∈ lw_all := lw_g (lw_at lw_m3 135 rfl) rfl
theorem q791 : (Jvm.Cond.selects "CurtainRiggers$Curtain" ({ cls := "CurtainRiggers$Numbered", name := "number", desc := "()I" } : Jvm.MethodName) ({ cls := "CurtainRiggers$Curtain", name := "number", desc := "()I" } : Jvm.MethodName)) ∈ lw_all := lw_g (lw_at lw_m4 3 rfl) rfl
theorem q792 : (Jvm.Cond.unhidden "CurtainRiggers$Curtain" "number" "()I") ∈ lw_tbl := lw_at lw_m4 4 rfl
theorem q793 : (Jvm.Cond.instanceMethod ({ cls := "CurtainRiggers$Curtain", name := "number", desc := "()I" } : Jvm.MethodName)) ∈ lw_all := lw_g (lw_at lw_m4 5 rfl) rfl
theorem q794 : (Jvm.Cond.publicMethod ({ cls := "CurtainRiggers$Curtain", name := "number", desc := "()I" } : Jvm.MethodName)) ∈ lw_tbl := lw_at lw_m4 6 rfl
theorem q795 : (Jvm.Cond.code ({ cls := "CurtainRiggers$Curtain", name := "number", desc := "()I" } : Jvm.MethodName) prog_8_method_2_code (1 : Nat) (Option.some Jvm.ClassFile.FieldType.int)) ∈ lw_all := lw_g (lw_at lw_m4 7 rfl) rfl
theorem q2726 : (Jvm.Cond.castable "CurtainRiggers$Curtain" "java/lang/Object") ∈ lw_tbl := lw_at lw_m12 18 rfl
theorem in_X6 : ∀ w ∈ wsX60, w ∈ lw_all := lw_in wsX60 [608, 610, 612] (by decide +kernel) (by decide +kernel)

/-! CurtainRiggers$Hand -/
set_option maxRecDepth 100000
def RX7 : String := "CurtainRiggers$Hand"
def TX7 : u_T := fun k => match k with
  | 0 => ("CurtainRiggers$Hand", "number", "I", true)
  | 1 => ("CurtainRiggers$Hand", "strength", "I", true)
  | _ => ("CurtainRiggers$Hand", "floor", "I", false)
def tyX7 : Nat → FieldType := fun k => match k with
  | 0 => .int
  | 1 => .int
  | _ => .int
abbrev wsX70 : List Cond := u_ws RX7 TX7 3
theorem nmX7 : ∀ a, a < 3 → ∀ b, b < 3 → a ≠ b → (TX7 a).2.1 ≠ (TX7 b).2.1 := by decide +kernel
theorem tyX7_ok : ∀ k, k < 3 → parseFieldDescriptor (TX7 k).2.2.1 = some (tyX7 k) := by decide +kernel
abbrev cX7_copy : ByteArray := prog_9_method_4_code
def yX7_copy : MethodName := ⟨RX7, "copy", "()LCurtainRiggers$Numbered;"⟩
theorem dX7_copy_0 : decode cX7_copy 0 = .ok (.aload_n 0, 1) := by decide +kernel
theorem dX7_copy_1 : decode cX7_copy 1 = .ok (.invokevirtual 22, 3) := by decide +kernel
theorem dX7_copy_4 : decode cX7_copy 4 = .ok (.areturn, 1) := by decide +kernel
abbrev cX7_copy_2 : ByteArray := prog_9_method_3_code
def yX7_copy_2 : MethodName := ⟨RX7, "copy", "()LCurtainRiggers$Hand;"⟩
def dkwX7_copy_2_0 : List UInt8 := [187, 0, 8, 89, 42, 180, 0, 7, 42, 180, 0, 13, 42, 180, 0, 16, 183, 0, 19, 176]
abbrev dktX7_copy_2_0 : List UInt8 := dkwX7_copy_2_0 ++ []
theorem dksX7_copy_2_0 : cX7_copy_2.data.toList.drop 0 = dktX7_copy_2_0 := by decide +kernel
theorem dX7_copy_2_0 : decode cX7_copy_2 0 = .ok (.new 8, 3) := dk_187 0 8 (dk_at dksX7_copy_2_0 0 rfl rfl)
theorem dX7_copy_2_3 : decode cX7_copy_2 3 = .ok (.dup, 1) := dk_89 (dk_at dksX7_copy_2_0 3 rfl rfl)
theorem dX7_copy_2_4 : decode cX7_copy_2 4 = .ok (.aload_n 0, 1) := dk_42 (dk_at dksX7_copy_2_0 4 rfl rfl)
theorem dX7_copy_2_5 : decode cX7_copy_2 5 = .ok (.getfield 7, 3) := dk_180 0 7 (dk_at dksX7_copy_2_0 5 rfl rfl)
theorem dX7_copy_2_8 : decode cX7_copy_2 8 = .ok (.aload_n 0, 1) := dk_42 (dk_at dksX7_copy_2_0 8 rfl rfl)
theorem dX7_copy_2_9 : decode cX7_copy_2 9 = .ok (.getfield 13, 3) := dk_180 0 13 (dk_at dksX7_copy_2_0 9 rfl rfl)
theorem dX7_copy_2_12 : decode cX7_copy_2 12 = .ok (.aload_n 0, 1) := dk_42 (dk_at dksX7_copy_2_0 12 rfl rfl)
theorem dX7_copy_2_13 : decode cX7_copy_2 13 = .ok (.getfield 16, 3) := dk_180 0 16 (dk_at dksX7_copy_2_0 13 rfl rfl)
theorem dX7_copy_2_16 : decode cX7_copy_2 16 = .ok (.invokespecial 19, 3) := dk_183 0 19 (dk_at dksX7_copy_2_0 16 rfl rfl)
theorem dX7_copy_2_19 : decode cX7_copy_2 19 = .ok (.areturn, 1) := dk_176 (dk_at dksX7_copy_2_0 19 rfl rfl)
abbrev cX7_init : ByteArray := prog_9_method_1_code
def yX7_init : MethodName := ⟨RX7, "<init>", "(III)V"⟩
def dkwX7_init_0 : List UInt8 := [42, 183, 0, 1, 42, 27, 181, 0, 7, 42, 28, 181, 0, 13, 42, 29, 181, 0, 16, 177]
abbrev dktX7_init_0 : List UInt8 := dkwX7_init_0 ++ []
theorem dksX7_init_0 : cX7_init.data.toList.drop 0 = dktX7_init_0 := by decide +kernel
theorem dX7_init_0 : decode cX7_init 0 = .ok (.aload_n 0, 1) := dk_42 (dk_at dksX7_init_0 0 rfl rfl)
theorem dX7_init_1 : decode cX7_init 1 = .ok (.invokespecial 1, 3) := dk_183 0 1 (dk_at dksX7_init_0 1 rfl rfl)
theorem dX7_init_4 : decode cX7_init 4 = .ok (.aload_n 0, 1) := dk_42 (dk_at dksX7_init_0 4 rfl rfl)
theorem dX7_init_5 : decode cX7_init 5 = .ok (.iload_n 1, 1) := dk_27 (dk_at dksX7_init_0 5 rfl rfl)
theorem dX7_init_6 : decode cX7_init 6 = .ok (.putfield 7, 3) := dk_181 0 7 (dk_at dksX7_init_0 6 rfl rfl)
theorem dX7_init_9 : decode cX7_init 9 = .ok (.aload_n 0, 1) := dk_42 (dk_at dksX7_init_0 9 rfl rfl)
theorem dX7_init_10 : decode cX7_init 10 = .ok (.iload_n 2, 1) := dk_28 (dk_at dksX7_init_0 10 rfl rfl)
theorem dX7_init_11 : decode cX7_init 11 = .ok (.putfield 13, 3) := dk_181 0 13 (dk_at dksX7_init_0 11 rfl rfl)
theorem dX7_init_14 : decode cX7_init 14 = .ok (.aload_n 0, 1) := dk_42 (dk_at dksX7_init_0 14 rfl rfl)
theorem dX7_init_15 : decode cX7_init 15 = .ok (.iload_n 3, 1) := dk_29 (dk_at dksX7_init_0 15 rfl rfl)
theorem dX7_init_16 : decode cX7_init 16 = .ok (.putfield 16, 3) := dk_181 0 16 (dk_at dksX7_init_0 16 rfl rfl)
theorem dX7_init_19 : decode cX7_init 19 = .ok (.return_, 1) := dk_177 (dk_at dksX7_init_0 19 rfl rfl)
abbrev cX7_number : ByteArray := prog_9_method_2_code
def yX7_number : MethodName := ⟨RX7, "number", "()I"⟩
theorem dX7_number_0 : decode cX7_number 0 = .ok (.aload_n 0, 1) := by decide +kernel
theorem dX7_number_1 : decode cX7_number 1 = .ok (.getfield 7, 3) := by decide +kernel
theorem dX7_number_4 : decode cX7_number 4 = .ok (.ireturn, 1) := by decide +kernel
theorem q90 : (Jvm.Cond.initialized "CurtainRiggers$Hand") ∈ lw_all := lw_g (lw_at lw_m1 22 rfl) rfl
theorem q615 : (Jvm.Cond.castable "CurtainRiggers$Hand" "CurtainRiggers$Numbered") ∈ lw_tbl := lw_at lw_m3 67 rfl
theorem q616 : (Jvm.Cond.selects "CurtainRiggers$Hand" ({ cls := "CurtainRiggers$Numbered", name := "copy", desc := "()LCurtainRiggers$Numbered;" } : Jvm.MethodName) ({ cls := "CurtainRiggers$Hand", name := "copy", desc := "()LCurtainRiggers$Numbered;" } : Jvm.MethodName)) ∈ lw_all := lw_g (lw_at lw_m3 68 rfl) rfl
theorem q617 : (Jvm.Cond.unhidden "CurtainRiggers$Hand" "copy" "()LCurtainRiggers$Numbered;") ∈ lw_tbl := lw_at lw_m3 69 rfl
theorem q618 : (Jvm.Cond.instanceMethod ({ cls := "CurtainRiggers$Hand", name := "copy", desc := "()LCurtainRiggers$Numbered;" } : Jvm.MethodName)) ∈ lw_all := lw_g (lw_at lw_m3 70 rfl) rfl
theorem q619 : (Jvm.Cond.publicMethod ({ cls := "CurtainRiggers$Hand", name := "copy", desc := "()LCurtainRiggers$Numbered;" } : Jvm.MethodName)) ∈ lw_tbl := lw_at lw_m3 71 rfl
theorem q620 : (Jvm.Cond.code ({ cls := "CurtainRiggers$Hand", name := "copy", desc := "()LCurtainRiggers$Numbered;" } : Jvm.MethodName) prog_9_method_4_code (1 : Nat) (Option.some (Jvm.ClassFile.FieldType.object "CurtainRiggers$Numbered"))) ∈ lw_all := lw_g (lw_at lw_m3 72 rfl) rfl
theorem q621 : (Jvm.Cond.methodLink "CurtainRiggers$Hand" (22 : Nat) ({ cls := "CurtainRiggers$Hand", name := "copy", desc := "()LCurtainRiggers$Hand;" } : Jvm.MethodName)) ∈ lw_all := lw_g (lw_at lw_m3 73 rfl) rfl
theorem q622 : (Jvm.Cond.instanceMethod ({ cls := "CurtainRiggers$Hand", name := "copy", desc := "()LCurtainRiggers$Hand;" } : Jvm.MethodName)) ∈ lw_all := lw_g (lw_at lw_m3 74 rfl) rfl
theorem q623 : (Jvm.Cond.selects "CurtainRiggers$Hand" ({ cls := "CurtainRiggers$Hand", name := "copy", desc := "()LCurtainRiggers$Hand;" } : Jvm.MethodName) ({ cls := "CurtainRiggers$Hand", name := "copy", desc := "()LCurtainRiggers$Hand;" } : Jvm.MethodName)) ∈ lw_all := lw_g (lw_at lw_m3 75 rfl) rfl
theorem q624 : (Jvm.Cond.code ({ cls := "CurtainRiggers$Hand", name := "copy", desc := "()LCurtainRiggers$Hand;" } : Jvm.MethodName) prog_9_method_3_code (1 : Nat) (Option.some (Jvm.ClassFile.FieldType.object "CurtainRiggers$Hand"))) ∈ lw_all := lw_g (lw_at lw_m3 76 rfl) rfl
theorem q625 : (Jvm.Cond.classLink "CurtainRiggers$Hand" (8 : Nat) "CurtainRiggers$Hand") ∈ lw_all := lw_g (lw_at lw_m3 77 rfl) rfl
theorem q626 : (Jvm.Cond.instantiable "CurtainRiggers$Hand" (3 : Nat)) ∈ lw_all := lw_g (lw_at lw_m3 78 rfl) rfl
theorem q627 : (Jvm.Cond.methodLink "CurtainRiggers$Hand" (19 : Nat) ({ cls := "CurtainRiggers$Hand", name := "<init>", desc := "(III)V" } : Jvm.MethodName)) ∈ lw_all := lw_g (lw_at lw_m3 79 rfl) rfl
theorem q628 : (Jvm.Cond.instanceMethod ({ cls := "CurtainRiggers$Hand", name := "<init>", desc := "(III)V" } : Jvm.MethodName)) ∈ lw_all := lw_g (lw_at lw_m3 80 rfl) rfl
theorem q629 : (Jvm.Cond.code ({ cls := "CurtainRiggers$Hand", name := "<init>", desc := "(III)V" } : Jvm.MethodName) prog_9_method_1_code (4 : Nat) (Option.none : Option Jvm.ClassFile.FieldType)) ∈ lw_all := lw_g (lw_at lw_m3 81 rfl) rfl
theorem q630 : (Jvm.Cond.methodLink "CurtainRiggers$Hand" (1 : Nat) ({ cls := "java/lang/Object", name := "<init>", desc := "()V" } : Jvm.MethodName)) ∈ lw_all := lw_g (lw_at lw_m3 82 rfl) rfl
theorem q631 : (Jvm.Cond.fieldLink "CurtainRiggers$Hand" (7 : Nat) "CurtainRiggers$Hand" "number" "I") ∈ lw_all := lw_g (lw_at lw_m3 83 rfl) rfl
theorem q632 : (Jvm.Cond.fieldLink "CurtainRiggers$Hand" (13 : Nat) "CurtainRiggers$Hand" "strength" "I") ∈ lw_all := lw_g (lw_at lw_m3 84 rfl) rfl
theorem q634 : (Jvm.Cond.fieldLink "CurtainRiggers$Hand" (16 : Nat) "CurtainRiggers$Hand" "floor" "I") ∈ lw_all := lw_g (lw_at lw_m3 86 rfl) rfl
theorem q637 : (Jvm.Cond.laysFinal "CurtainRiggers$Hand" "CurtainRiggers$Hand" "number" "I") ∈ lw_all := lw_g (lw_at lw_m3 89 rfl) rfl
theorem q638 : (Jvm.Cond.soleField "CurtainRiggers$Hand" "number") ∈ lw_all := lw_g (lw_at lw_m3 90 rfl) rfl
theorem q639 : (Jvm.Cond.laysFinal "CurtainRiggers$Hand" "CurtainRiggers$Hand" "strength" "I") ∈ lw_all := lw_g (lw_at lw_m3 91 rfl) rfl
theorem q640 : (Jvm.Cond.soleField "CurtainRiggers$Hand" "strength") ∈ lw_all := lw_g (lw_at lw_m3 92 rfl) rfl
theorem q641 : (Jvm.Cond.lays "CurtainRiggers$Hand" "CurtainRiggers$Hand" "floor" "I") ∈ lw_all := lw_g (lw_at lw_m3 93 rfl) rfl
theorem q642 : (Jvm.Cond.soleField "CurtainRiggers$Hand" "floor") ∈ lw_all := lw_g (lw_at lw_m3 94 rfl) rfl
theorem q643 : (Jvm.Cond.superclass "CurtainRiggers$Hand" "java/lang/Object") ∈ lw_all := lw_g (lw_at lw_m3 95 rfl) rfl
theorem q684 : (Jvm.Cond.selects "CurtainRiggers$Hand" ({ cls := "java/lang/Object", name := "getClass", desc := "()Ljava/lang/Class;" } : Jvm.MethodName) ({ cls := "java/lang/Object", name := "getClass", desc := "()Ljava/lang/Class;" } : Jvm.MethodName)) ∈ lw_all := lw_g (lw_at lw_m3 136 rfl) rfl
theorem q796 : (Jvm.Cond.selects "CurtainRiggers$Hand" ({ cls := "CurtainRiggers$Numbered", name := "number", desc := "()I" } : Jvm.MethodName) ({ cls := "CurtainRiggers$Hand", name := "number", desc := "()I" } : Jvm.MethodName)) ∈ lw_all := lw_g (lw_at lw_m4 8 rfl) rfl
theorem q797 : (Jvm.Cond.unhidden "CurtainRiggers$Hand" "number" "()I") ∈ lw_tbl := lw_at lw_m4 9 rfl
theorem q798 : (Jvm.Cond.instanceMethod ({ cls := "CurtainRiggers$Hand", name := "number", desc := "()I" } : Jvm.MethodName)) ∈ lw_all := lw_g (lw_at lw_m4 10 rfl) rfl
theorem q799 : (Jvm.Cond.publicMethod ({ cls := "CurtainRiggers$Hand", name := "number", desc := "()I" } : Jvm.MethodName)) ∈ lw_tbl := lw_at lw_m4 11 rfl
theorem q800 : (Jvm.Cond.code ({ cls := "CurtainRiggers$Hand", name := "number", desc := "()I" } : Jvm.MethodName) prog_9_method_2_code (1 : Nat) (Option.some Jvm.ClassFile.FieldType.int)) ∈ lw_all := lw_g (lw_at lw_m4 12 rfl) rfl
theorem q2727 : (Jvm.Cond.castable "CurtainRiggers$Hand" "java/lang/Object") ∈ lw_tbl := lw_at lw_m12 19 rfl
theorem in_X7 : ∀ w ∈ wsX70, w ∈ lw_all := lw_in wsX70 [637, 639, 641] (by decide +kernel) (by decide +kernel)

/-! CurtainRiggers$Change -/
set_option maxRecDepth 100000
def RX8 : String := "CurtainRiggers$Change"
def TX8 : u_T := fun k => match k with
  | 0 => ("CurtainRiggers$Change", "word", "Ljava/lang/String;", true)
  | 1 => ("CurtainRiggers$Change", "one", "I", true)
  | _ => ("CurtainRiggers$Change", "other", "I", true)
def tyX8 : Nat → FieldType := fun k => match k with
  | 0 => .object "java/lang/String"
  | 1 => .int
  | _ => .int
abbrev wsX80 : List Cond := u_ws RX8 TX8 3
theorem nmX8 : ∀ a, a < 3 → ∀ b, b < 3 → a ≠ b → (TX8 a).2.1 ≠ (TX8 b).2.1 := by decide +kernel
theorem tyX8_ok : ∀ k, k < 3 → parseFieldDescriptor (TX8 k).2.2.1 = some (tyX8 k) := by decide +kernel
abbrev cX8_init : ByteArray := prog_6_method_1_code
def yX8_init : MethodName := ⟨RX8, "<init>", "(Ljava/lang/String;II)V"⟩
def dkwX8_init_0 : List UInt8 := [42, 183, 0, 1, 42, 43, 181, 0, 7, 42, 28, 181, 0, 13, 42, 29, 181, 0, 17, 177]
abbrev dktX8_init_0 : List UInt8 := dkwX8_init_0 ++ []
theorem dksX8_init_0 : cX8_init.data.toList.drop 0 = dktX8_init_0 := by decide +kernel
theorem dX8_init_0 : decode cX8_init 0 = .ok (.aload_n 0, 1) := dk_42 (dk_at dksX8_init_0 0 rfl rfl)
theorem dX8_init_1 : decode cX8_init 1 = .ok (.invokespecial 1, 3) := dk_183 0 1 (dk_at dksX8_init_0 1 rfl rfl)
theorem dX8_init_4 : decode cX8_init 4 = .ok (.aload_n 0, 1) := dk_42 (dk_at dksX8_init_0 4 rfl rfl)
theorem dX8_init_5 : decode cX8_init 5 = .ok (.aload_n 1, 1) := dk_43 (dk_at dksX8_init_0 5 rfl rfl)
theorem dX8_init_6 : decode cX8_init 6 = .ok (.putfield 7, 3) := dk_181 0 7 (dk_at dksX8_init_0 6 rfl rfl)
theorem dX8_init_9 : decode cX8_init 9 = .ok (.aload_n 0, 1) := dk_42 (dk_at dksX8_init_0 9 rfl rfl)
theorem dX8_init_10 : decode cX8_init 10 = .ok (.iload_n 2, 1) := dk_28 (dk_at dksX8_init_0 10 rfl rfl)
theorem dX8_init_11 : decode cX8_init 11 = .ok (.putfield 13, 3) := dk_181 0 13 (dk_at dksX8_init_0 11 rfl rfl)
theorem dX8_init_14 : decode cX8_init 14 = .ok (.aload_n 0, 1) := dk_42 (dk_at dksX8_init_0 14 rfl rfl)
theorem dX8_init_15 : decode cX8_init 15 = .ok (.iload_n 3, 1) := dk_29 (dk_at dksX8_init_0 15 rfl rfl)
theorem dX8_init_16 : decode cX8_init 16 = .ok (.putfield 17, 3) := dk_181 0 17 (dk_at dksX8_init_0 16 rfl rfl)
theorem dX8_init_19 : decode cX8_init 19 = .ok (.return_, 1) := dk_177 (dk_at dksX8_init_0 19 rfl rfl)
abbrev cX8_make : ByteArray := prog_6_method_2_code
def yX8_make : MethodName := ⟨RX8, "make", "(LCurtainRiggers$Theatre;)I"⟩
def dkwX8_make_19 : List UInt8 := [182, 0, 113, 172]
abbrev dktX8_make_19 : List UInt8 := dkwX8_make_19 ++ []
def dkwX8_make_18 : List UInt8 := [172, 43, 42, 180, 0, 13, 42, 180, 0, 17, 182, 0, 110, 172, 43, 42, 180, 0, 13, 42, 180, 0, 17]
abbrev dktX8_make_18 : List UInt8 := dkwX8_make_18 ++ dktX8_make_19
def dkwX8_make_17 : List UInt8 := [183, 0, 97, 182, 0, 100, 172, 43, 42, 180, 0, 13, 182, 0, 104, 172, 43, 42, 180, 0, 13, 182, 0, 107]
abbrev dktX8_make_17 : List UInt8 := dkwX8_make_17 ++ dktX8_make_18
def dkwX8_make_16 : List UInt8 := [43, 42, 180, 0, 13, 182, 0, 83, 172, 43, 180, 0, 86, 187, 0, 90, 89, 43, 180, 0, 86, 182, 0, 92]
abbrev dktX8_make_16 : List UInt8 := dkwX8_make_16 ++ dktX8_make_17
def dkwX8_make_15 : List UInt8 := [4, 182, 0, 76, 172, 43, 42, 180, 0, 13, 3, 182, 0, 76, 172, 43, 42, 180, 0, 13, 182, 0, 80, 172]
abbrev dktX8_make_15 : List UInt8 := dkwX8_make_15 ++ dktX8_make_16
def dkwX8_make_14 : List UInt8 := [172, 43, 42, 180, 0, 13, 42, 180, 0, 17, 182, 0, 71, 172, 43, 182, 0, 74, 172, 43, 42, 180, 0, 13]
abbrev dktX8_make_14 : List UInt8 := dkwX8_make_14 ++ dktX8_make_15
def dkwX8_make_13 : List UInt8 := [180, 0, 13, 42, 180, 0, 17, 182, 0, 68, 172, 43, 42, 180, 0, 13, 42, 180, 0, 17, 116, 182, 0, 68]
abbrev dktX8_make_13 : List UInt8 := dkwX8_make_13 ++ dktX8_make_14
def dkwX8_make_12 : List UInt8 := [43, 42, 180, 0, 13, 42, 180, 0, 17, 182, 0, 58, 172, 43, 42, 180, 0, 13, 182, 0, 64, 172, 43, 42]
abbrev dktX8_make_12 : List UInt8 := dkwX8_make_12 ++ dktX8_make_13
def dkwX8_make_11 : List UInt8 := [170, 0, 0, 0, 0, 228, 0, 0, 0, 0, 0, 0, 0, 13, 0, 0, 0, 70, 0, 0, 0, 83, 0, 0, 0, 92, 0, 0, 0, 105, 0, 0, 0, 119, 0, 0, 0, 132, 0, 0, 0, 137, 0, 0, 0, 147, 0, 0, 0, 157, 0, 0, 0, 166, 0, 0, 0, 175, 0, 0, 0, 197, 0, 0, 0, 206, 0, 0, 0, 215]
abbrev dktX8_make_11 : List UInt8 := dkwX8_make_11 ++ dktX8_make_12
def dkwX8_make_10 : List UInt8 := [44, 18, 56, 182, 0, 28, 153, 0, 6, 16, 13, 62, 29]
abbrev dktX8_make_10 : List UInt8 := dkwX8_make_10 ++ dktX8_make_11
def dkwX8_make_9 : List UInt8 := [153, 0, 36, 16, 11, 62, 167, 0, 30, 44, 18, 54, 182, 0, 28, 153, 0, 21, 16, 12, 62, 167, 0, 15]
abbrev dktX8_make_9 : List UInt8 := dkwX8_make_9 ++ dktX8_make_10
def dkwX8_make_8 : List UInt8 := [167, 0, 60, 44, 18, 50, 182, 0, 28, 153, 0, 51, 16, 10, 62, 167, 0, 45, 44, 18, 52, 182, 0, 28]
abbrev dktX8_make_8 : List UInt8 := dkwX8_make_8 ++ dktX8_make_9
def dkwX8_make_7 : List UInt8 := [182, 0, 28, 153, 0, 81, 16, 8, 62, 167, 0, 75, 44, 18, 48, 182, 0, 28, 153, 0, 66, 16, 9, 62]
abbrev dktX8_make_7 : List UInt8 := dkwX8_make_7 ++ dktX8_make_8
def dkwX8_make_6 : List UInt8 := [62, 167, 0, 105, 44, 18, 44, 182, 0, 28, 153, 0, 96, 16, 7, 62, 167, 0, 90, 44, 18, 46]
abbrev dktX8_make_6 : List UInt8 := dkwX8_make_6 ++ dktX8_make_7
def dkwX8_make_5 : List UInt8 := [18, 40, 182, 0, 28, 153, 0, 125, 8, 62, 167, 0, 120, 44, 18, 42, 182, 0, 28, 153, 0, 111, 16, 6]
abbrev dktX8_make_5 : List UInt8 := dkwX8_make_5 ++ dktX8_make_6
def dkwX8_make_4 : List UInt8 := [153, 0, 153, 6, 62, 167, 0, 148, 44, 18, 38, 182, 0, 28, 153, 0, 139, 7, 62, 167, 0, 134, 44]
abbrev dktX8_make_4 : List UInt8 := dkwX8_make_4 ++ dktX8_make_5
def dkwX8_make_3 : List UInt8 := [62, 167, 0, 176, 44, 18, 34, 182, 0, 28, 153, 0, 167, 5, 62, 167, 0, 162, 44, 18, 36, 182, 0, 28]
abbrev dktX8_make_3 : List UInt8 := dkwX8_make_3 ++ dktX8_make_4
def dkwX8_make_2 : List UInt8 := [44, 18, 26, 182, 0, 28, 153, 0, 195, 3, 62, 167, 0, 190, 44, 18, 32, 182, 0, 28, 153, 0, 181, 4]
abbrev dktX8_make_2 : List UInt8 := dkwX8_make_2 ++ dktX8_make_3
def dkwX8_make_1 : List UInt8 := [171, 0, 0, 1, 66, 0, 0, 0, 14, 175, 21, 225, 40, 0, 0, 0, 220, 0, 0, 12, 232, 0, 0, 0, 191, 0, 1, 124, 19, 0, 0, 1, 9, 0, 45, 155, 159, 0, 0, 0, 149, 0, 48, 2, 13, 0, 0, 0, 177, 0, 48, 192, 111, 0, 0, 1, 54, 0, 52, 0, 145, 0, 0, 0, 163, 0, 53, 128, 242, 0, 0, 1, 24, 0, 54, 105, 51, 0, 0, 0, 250, 0, 56, 136, 61, 0, 0, 0, 235, 5, 182, 175, 17, 0, 0, 0, 135, 5, 231, 77, 238, 0, 0, 0, 121, 6, 80, 163, 22, 0, 0, 0, 205, 67, 44, 150, 146, 0, 0, 1, 39]
abbrev dktX8_make_1 : List UInt8 := dkwX8_make_1 ++ dktX8_make_2
def dkwX8_make_0 : List UInt8 := [42, 180, 0, 7, 77, 2, 62, 44, 182, 0, 20]
abbrev dktX8_make_0 : List UInt8 := dkwX8_make_0 ++ dktX8_make_1
theorem dksX8_make_0 : cX8_make.data.toList.drop 0 = dktX8_make_0 := by decide +kernel
theorem dksX8_make_1 : cX8_make.data.toList.drop 11 = dktX8_make_1 := dk_seg dksX8_make_0 11 rfl rfl
theorem dksX8_make_2 : cX8_make.data.toList.drop 132 = dktX8_make_2 := dk_seg dksX8_make_1 121 rfl rfl
theorem dksX8_make_3 : cX8_make.data.toList.drop 156 = dktX8_make_3 := dk_seg dksX8_make_2 24 rfl rfl
theorem dksX8_make_4 : cX8_make.data.toList.drop 180 = dktX8_make_4 := dk_seg dksX8_make_3 24 rfl rfl
theorem dksX8_make_5 : cX8_make.data.toList.drop 203 = dktX8_make_5 := dk_seg dksX8_make_4 23 rfl rfl
theorem dksX8_make_6 : cX8_make.data.toList.drop 227 = dktX8_make_6 := dk_seg dksX8_make_5 24 rfl rfl
theorem dksX8_make_7 : cX8_make.data.toList.drop 249 = dktX8_make_7 := dk_seg dksX8_make_6 22 rfl rfl
theorem dksX8_make_8 : cX8_make.data.toList.drop 273 = dktX8_make_8 := dk_seg dksX8_make_7 24 rfl rfl
theorem dksX8_make_9 : cX8_make.data.toList.drop 297 = dktX8_make_9 := dk_seg dksX8_make_8 24 rfl rfl
theorem dksX8_make_10 : cX8_make.data.toList.drop 321 = dktX8_make_10 := dk_seg dksX8_make_9 24 rfl rfl
theorem dksX8_make_11 : cX8_make.data.toList.drop 334 = dktX8_make_11 := dk_seg dksX8_make_10 13 rfl rfl
theorem dksX8_make_12 : cX8_make.data.toList.drop 404 = dktX8_make_12 := dk_seg dksX8_make_11 70 rfl rfl
theorem dksX8_make_13 : cX8_make.data.toList.drop 428 = dktX8_make_13 := dk_seg dksX8_make_12 24 rfl rfl
theorem dksX8_make_14 : cX8_make.data.toList.drop 452 = dktX8_make_14 := dk_seg dksX8_make_13 24 rfl rfl
theorem dksX8_make_15 : cX8_make.data.toList.drop 476 = dktX8_make_15 := dk_seg dksX8_make_14 24 rfl rfl
theorem dksX8_make_16 : cX8_make.data.toList.drop 500 = dktX8_make_16 := dk_seg dksX8_make_15 24 rfl rfl
theorem dksX8_make_17 : cX8_make.data.toList.drop 524 = dktX8_make_17 := dk_seg dksX8_make_16 24 rfl rfl
theorem dksX8_make_18 : cX8_make.data.toList.drop 548 = dktX8_make_18 := dk_seg dksX8_make_17 24 rfl rfl
theorem dksX8_make_19 : cX8_make.data.toList.drop 571 = dktX8_make_19 := dk_seg dksX8_make_18 23 rfl rfl
theorem dX8_make_0 : decode cX8_make 0 = .ok (.aload_n 0, 1) := dk_42 (dk_at dksX8_make_0 0 rfl rfl)
theorem dX8_make_1 : decode cX8_make 1 = .ok (.getfield 7, 3) := dk_180 0 7 (dk_at dksX8_make_0 1 rfl rfl)
theorem dX8_make_4 : decode cX8_make 4 = .ok (.astore_n 2, 1) := dk_77 (dk_at dksX8_make_0 4 rfl rfl)
theorem dX8_make_5 : decode cX8_make 5 = .ok (.iconst (-1), 1) := dk_2 (dk_at dksX8_make_0 5 rfl rfl)
theorem dX8_make_6 : decode cX8_make 6 = .ok (.istore_n 3, 1) := dk_62 (dk_at dksX8_make_0 6 rfl rfl)
theorem dX8_make_7 : decode cX8_make 7 = .ok (.aload_n 2, 1) := dk_44 (dk_at dksX8_make_0 7 rfl rfl)
theorem dX8_make_8 : decode cX8_make 8 = .ok (.invokevirtual 20, 3) := dk_182 0 20 (dk_at dksX8_make_0 8 rfl rfl)
theorem dX8_make_11 : decode cX8_make 11 = .ok (.lookupswitch 322 #[(-1357520600, 220), (3304, 191), (97299, 265), (2988959, 149), (3146253, 177), (3194991, 310), (3408017, 163), (3506418, 280), (3565875, 250), (3704893, 235), (95858449, 135), (99044846, 121), (105947926, 205), (1126995602, 295)], 121) := by decide +kernel
theorem dX8_make_132 : decode cX8_make 132 = .ok (.aload_n 2, 1) := dk_44 (dk_at dksX8_make_2 0 rfl rfl)
theorem dX8_make_133 : decode cX8_make 133 = .ok (.ldc 26, 2) := dk_18 26 (dk_at dksX8_make_2 1 rfl rfl)
theorem dX8_make_135 : decode cX8_make 135 = .ok (.invokevirtual 28, 3) := dk_182 0 28 (dk_at dksX8_make_2 3 rfl rfl)
theorem dX8_make_138 : decode cX8_make 138 = .ok (.ifCond .eq 195, 3) := dk_153 0 195 (dk_at dksX8_make_2 6 rfl rfl)
theorem dX8_make_141 : decode cX8_make 141 = .ok (.iconst 0, 1) := dk_3 (dk_at dksX8_make_2 9 rfl rfl)
theorem dX8_make_142 : decode cX8_make 142 = .ok (.istore_n 3, 1) := dk_62 (dk_at dksX8_make_2 10 rfl rfl)
theorem dX8_make_143 : decode cX8_make 143 = .ok (.goto 190, 3) := dk_167 0 190 (dk_at dksX8_make_2 11 rfl rfl)
theorem dX8_make_146 : decode cX8_make 146 = .ok (.aload_n 2, 1) := dk_44 (dk_at dksX8_make_2 14 rfl rfl)
theorem dX8_make_147 : decode cX8_make 147 = .ok (.ldc 32, 2) := dk_18 32 (dk_at dksX8_make_2 15 rfl rfl)
theorem dX8_make_149 : decode cX8_make 149 = .ok (.invokevirtual 28, 3) := dk_182 0 28 (dk_at dksX8_make_2 17 rfl rfl)
theorem dX8_make_152 : decode cX8_make 152 = .ok (.ifCond .eq 181, 3) := dk_153 0 181 (dk_at dksX8_make_2 20 rfl rfl)
theorem dX8_make_155 : decode cX8_make 155 = .ok (.iconst 1, 1) := dk_4 (dk_at dksX8_make_2 23 rfl rfl)
theorem dX8_make_156 : decode cX8_make 156 = .ok (.istore_n 3, 1) := dk_62 (dk_at dksX8_make_3 0 rfl rfl)
theorem dX8_make_157 : decode cX8_make 157 = .ok (.goto 176, 3) := dk_167 0 176 (dk_at dksX8_make_3 1 rfl rfl)
theorem dX8_make_160 : decode cX8_make 160 = .ok (.aload_n 2, 1) := dk_44 (dk_at dksX8_make_3 4 rfl rfl)
theorem dX8_make_161 : decode cX8_make 161 = .ok (.ldc 34, 2) := dk_18 34 (dk_at dksX8_make_3 5 rfl rfl)
theorem dX8_make_163 : decode cX8_make 163 = .ok (.invokevirtual 28, 3) := dk_182 0 28 (dk_at dksX8_make_3 7 rfl rfl)
theorem dX8_make_166 : decode cX8_make 166 = .ok (.ifCond .eq 167, 3) := dk_153 0 167 (dk_at dksX8_make_3 10 rfl rfl)
theorem dX8_make_169 : decode cX8_make 169 = .ok (.iconst 2, 1) := dk_5 (dk_at dksX8_make_3 13 rfl rfl)
theorem dX8_make_170 : decode cX8_make 170 = .ok (.istore_n 3, 1) := dk_62 (dk_at dksX8_make_3 14 rfl rfl)
theorem dX8_make_171 : decode cX8_make 171 = .ok (.goto 162, 3) := dk_167 0 162 (dk_at dksX8_make_3 15 rfl rfl)
theorem dX8_make_174 : decode cX8_make 174 = .ok (.aload_n 2, 1) := dk_44 (dk_at dksX8_make_3 18 rfl rfl)
theorem dX8_make_175 : decode cX8_make 175 = .ok (.ldc 36, 2) := dk_18 36 (dk_at dksX8_make_3 19 rfl rfl)
theorem dX8_make_177 : decode cX8_make 177 = .ok (.invokevirtual 28, 3) := dk_182 0 28 (dk_at dksX8_make_3 21 rfl rfl)
theorem dX8_make_180 : decode cX8_make 180 = .ok (.ifCond .eq 153, 3) := dk_153 0 153 (dk_at dksX8_make_4 0 rfl rfl)
theorem dX8_make_183 : decode cX8_make 183 = .ok (.iconst 3, 1) := dk_6 (dk_at dksX8_make_4 3 rfl rfl)
theorem dX8_make_184 : decode cX8_make 184 = .ok (.istore_n 3, 1) := dk_62 (dk_at dksX8_make_4 4 rfl rfl)
theorem dX8_make_185 : decode cX8_make 185 = .ok (.goto 148, 3) := dk_167 0 148 (dk_at dksX8_make_4 5 rfl rfl)
theorem dX8_make_188 : decode cX8_make 188 = .ok (.aload_n 2, 1) := dk_44 (dk_at dksX8_make_4 8 rfl rfl)
theorem dX8_make_189 : decode cX8_make 189 = .ok (.ldc 38, 2) := dk_18 38 (dk_at dksX8_make_4 9 rfl rfl)
theorem dX8_make_191 : decode cX8_make 191 = .ok (.invokevirtual 28, 3) := dk_182 0 28 (dk_at dksX8_make_4 11 rfl rfl)
theorem dX8_make_194 : decode cX8_make 194 = .ok (.ifCond .eq 139, 3) := dk_153 0 139 (dk_at dksX8_make_4 14 rfl rfl)
theorem dX8_make_197 : decode cX8_make 197 = .ok (.iconst 4, 1) := dk_7 (dk_at dksX8_make_4 17 rfl rfl)
theorem dX8_make_198 : decode cX8_make 198 = .ok (.istore_n 3, 1) := dk_62 (dk_at dksX8_make_4 18 rfl rfl)
theorem dX8_make_199 : decode cX8_make 199 = .ok (.goto 134, 3) := dk_167 0 134 (dk_at dksX8_make_4 19 rfl rfl)
theorem dX8_make_202 : decode cX8_make 202 = .ok (.aload_n 2, 1) := dk_44 (dk_at dksX8_make_4 22 rfl rfl)
theorem dX8_make_203 : decode cX8_make 203 = .ok (.ldc 40, 2) := dk_18 40 (dk_at dksX8_make_5 0 rfl rfl)
theorem dX8_make_205 : decode cX8_make 205 = .ok (.invokevirtual 28, 3) := dk_182 0 28 (dk_at dksX8_make_5 2 rfl rfl)
theorem dX8_make_208 : decode cX8_make 208 = .ok (.ifCond .eq 125, 3) := dk_153 0 125 (dk_at dksX8_make_5 5 rfl rfl)
theorem dX8_make_211 : decode cX8_make 211 = .ok (.iconst 5, 1) := dk_8 (dk_at dksX8_make_5 8 rfl rfl)
theorem dX8_make_212 : decode cX8_make 212 = .ok (.istore_n 3, 1) := dk_62 (dk_at dksX8_make_5 9 rfl rfl)
theorem dX8_make_213 : decode cX8_make 213 = .ok (.goto 120, 3) := dk_167 0 120 (dk_at dksX8_make_5 10 rfl rfl)
theorem dX8_make_216 : decode cX8_make 216 = .ok (.aload_n 2, 1) := dk_44 (dk_at dksX8_make_5 13 rfl rfl)
theorem dX8_make_217 : decode cX8_make 217 = .ok (.ldc 42, 2) := dk_18 42 (dk_at dksX8_make_5 14 rfl rfl)
theorem dX8_make_219 : decode cX8_make 219 = .ok (.invokevirtual 28, 3) := dk_182 0 28 (dk_at dksX8_make_5 16 rfl rfl)
theorem dX8_make_222 : decode cX8_make 222 = .ok (.ifCond .eq 111, 3) := dk_153 0 111 (dk_at dksX8_make_5 19 rfl rfl)
theorem dX8_make_225 : decode cX8_make 225 = .ok (.bipush 6, 2) := dk_16 6 (dk_at dksX8_make_5 22 rfl rfl)
theorem dX8_make_227 : decode cX8_make 227 = .ok (.istore_n 3, 1) := dk_62 (dk_at dksX8_make_6 0 rfl rfl)
theorem dX8_make_228 : decode cX8_make 228 = .ok (.goto 105, 3) := dk_167 0 105 (dk_at dksX8_make_6 1 rfl rfl)
theorem dX8_make_231 : decode cX8_make 231 = .ok (.aload_n 2, 1) := dk_44 (dk_at dksX8_make_6 4 rfl rfl)
theorem dX8_make_232 : decode cX8_make 232 = .ok (.ldc 44, 2) := dk_18 44 (dk_at dksX8_make_6 5 rfl rfl)
theorem dX8_make_234 : decode cX8_make 234 = .ok (.invokevirtual 28, 3) := dk_182 0 28 (dk_at dksX8_make_6 7 rfl rfl)
theorem dX8_make_237 : decode cX8_make 237 = .ok (.ifCond .eq 96, 3) := dk_153 0 96 (dk_at dksX8_make_6 10 rfl rfl)
theorem dX8_make_240 : decode cX8_make 240 = .ok (.bipush 7, 2) := dk_16 7 (dk_at dksX8_make_6 13 rfl rfl)
theorem dX8_make_242 : decode cX8_make 242 = .ok (.istore_n 3, 1) := dk_62 (dk_at dksX8_make_6 15 rfl rfl)
theorem dX8_make_243 : decode cX8_make 243 = .ok (.goto 90, 3) := dk_167 0 90 (dk_at dksX8_make_6 16 rfl rfl)
theorem dX8_make_246 : decode cX8_make 246 = .ok (.aload_n 2, 1) := dk_44 (dk_at dksX8_make_6 19 rfl rfl)
theorem dX8_make_247 : decode cX8_make 247 = .ok (.ldc 46, 2) := dk_18 46 (dk_at dksX8_make_6 20 rfl rfl)
theorem dX8_make_249 : decode cX8_make 249 = .ok (.invokevirtual 28, 3) := dk_182 0 28 (dk_at dksX8_make_7 0 rfl rfl)
theorem dX8_make_252 : decode cX8_make 252 = .ok (.ifCond .eq 81, 3) := dk_153 0 81 (dk_at dksX8_make_7 3 rfl rfl)
theorem dX8_make_255 : decode cX8_make 255 = .ok (.bipush 8, 2) := dk_16 8 (dk_at dksX8_make_7 6 rfl rfl)
theorem dX8_make_257 : decode cX8_make 257 = .ok (.istore_n 3, 1) := dk_62 (dk_at dksX8_make_7 8 rfl rfl)
theorem dX8_make_258 : decode cX8_make 258 = .ok (.goto 75, 3) := dk_167 0 75 (dk_at dksX8_make_7 9 rfl rfl)
theorem dX8_make_261 : decode cX8_make 261 = .ok (.aload_n 2, 1) := dk_44 (dk_at dksX8_make_7 12 rfl rfl)
theorem dX8_make_262 : decode cX8_make 262 = .ok (.ldc 48, 2) := dk_18 48 (dk_at dksX8_make_7 13 rfl rfl)
theorem dX8_make_264 : decode cX8_make 264 = .ok (.invokevirtual 28, 3) := dk_182 0 28 (dk_at dksX8_make_7 15 rfl rfl)
theorem dX8_make_267 : decode cX8_make 267 = .ok (.ifCond .eq 66, 3) := dk_153 0 66 (dk_at dksX8_make_7 18 rfl rfl)
theorem dX8_make_270 : decode cX8_make 270 = .ok (.bipush 9, 2) := dk_16 9 (dk_at dksX8_make_7 21 rfl rfl)
theorem dX8_make_272 : decode cX8_make 272 = .ok (.istore_n 3, 1) := dk_62 (dk_at dksX8_make_7 23 rfl rfl)
theorem dX8_make_273 : decode cX8_make 273 = .ok (.goto 60, 3) := dk_167 0 60 (dk_at dksX8_make_8 0 rfl rfl)
theorem dX8_make_276 : decode cX8_make 276 = .ok (.aload_n 2, 1) := dk_44 (dk_at dksX8_make_8 3 rfl rfl)
theorem dX8_make_277 : decode cX8_make 277 = .ok (.ldc 50, 2) := dk_18 50 (dk_at dksX8_make_8 4 rfl rfl)
theorem dX8_make_279 : decode cX8_make 279 = .ok (.invokevirtual 28, 3) := dk_182 0 28 (dk_at dksX8_make_8 6 rfl rfl)
theorem dX8_make_282 : decode cX8_make 282 = .ok (.ifCond .eq 51, 3) := dk_153 0 51 (dk_at dksX8_make_8 9 rfl rfl)
theorem dX8_make_285 : decode cX8_make 285 = .ok (.bipush 10, 2) := dk_16 10 (dk_at dksX8_make_8 12 rfl rfl)
theorem dX8_make_287 : decode cX8_make 287 = .ok (.istore_n 3, 1) := dk_62 (dk_at dksX8_make_8 14 rfl rfl)
theorem dX8_make_288 : decode cX8_make 288 = .ok (.goto 45, 3) := dk_167 0 45 (dk_at dksX8_make_8 15 rfl rfl)
theorem dX8_make_291 : decode cX8_make 291 = .ok (.aload_n 2, 1) := dk_44 (dk_at dksX8_make_8 18 rfl rfl)
theorem dX8_make_292 : decode cX8_make 292 = .ok (.ldc 52, 2) := dk_18 52 (dk_at dksX8_make_8 19 rfl rfl)
theorem dX8_make_294 : decode cX8_make 294 = .ok (.invokevirtual 28, 3) := dk_182 0 28 (dk_at dksX8_make_8 21 rfl rfl)
theorem dX8_make_297 : decode cX8_make 297 = .ok (.ifCond .eq 36, 3) := dk_153 0 36 (dk_at dksX8_make_9 0 rfl rfl)
theorem dX8_make_300 : decode cX8_make 300 = .ok (.bipush 11, 2) := dk_16 11 (dk_at dksX8_make_9 3 rfl rfl)
theorem dX8_make_302 : decode cX8_make 302 = .ok (.istore_n 3, 1) := dk_62 (dk_at dksX8_make_9 5 rfl rfl)
theorem dX8_make_303 : decode cX8_make 303 = .ok (.goto 30, 3) := dk_167 0 30 (dk_at dksX8_make_9 6 rfl rfl)
theorem dX8_make_306 : decode cX8_make 306 = .ok (.aload_n 2, 1) := dk_44 (dk_at dksX8_make_9 9 rfl rfl)
theorem dX8_make_307 : decode cX8_make 307 = .ok (.ldc 54, 2) := dk_18 54 (dk_at dksX8_make_9 10 rfl rfl)
theorem dX8_make_309 : decode cX8_make 309 = .ok (.invokevirtual 28, 3) := dk_182 0 28 (dk_at dksX8_make_9 12 rfl rfl)
theorem dX8_make_312 : decode cX8_make 312 = .ok (.ifCond .eq 21, 3) := dk_153 0 21 (dk_at dksX8_make_9 15 rfl rfl)
theorem dX8_make_315 : decode cX8_make 315 = .ok (.bipush 12, 2) := dk_16 12 (dk_at dksX8_make_9 18 rfl rfl)
theorem dX8_make_317 : decode cX8_make 317 = .ok (.istore_n 3, 1) := dk_62 (dk_at dksX8_make_9 20 rfl rfl)
theorem dX8_make_318 : decode cX8_make 318 = .ok (.goto 15, 3) := dk_167 0 15 (dk_at dksX8_make_9 21 rfl rfl)
theorem dX8_make_321 : decode cX8_make 321 = .ok (.aload_n 2, 1) := dk_44 (dk_at dksX8_make_10 0 rfl rfl)
theorem dX8_make_322 : decode cX8_make 322 = .ok (.ldc 56, 2) := dk_18 56 (dk_at dksX8_make_10 1 rfl rfl)
theorem dX8_make_324 : decode cX8_make 324 = .ok (.invokevirtual 28, 3) := dk_182 0 28 (dk_at dksX8_make_10 3 rfl rfl)
theorem dX8_make_327 : decode cX8_make 327 = .ok (.ifCond .eq 6, 3) := dk_153 0 6 (dk_at dksX8_make_10 6 rfl rfl)
theorem dX8_make_330 : decode cX8_make 330 = .ok (.bipush 13, 2) := dk_16 13 (dk_at dksX8_make_10 9 rfl rfl)
theorem dX8_make_332 : decode cX8_make 332 = .ok (.istore_n 3, 1) := dk_62 (dk_at dksX8_make_10 11 rfl rfl)
theorem dX8_make_333 : decode cX8_make 333 = .ok (.iload_n 3, 1) := dk_29 (dk_at dksX8_make_10 12 rfl rfl)
theorem dX8_make_334 : decode cX8_make 334 = .ok (.tableswitch 228 0 13 #[70, 83, 92, 105, 119, 132, 137, 147, 157, 166, 175, 197, 206, 215], 70) := by decide +kernel
theorem dX8_make_404 : decode cX8_make 404 = .ok (.aload_n 1, 1) := dk_43 (dk_at dksX8_make_12 0 rfl rfl)
theorem dX8_make_405 : decode cX8_make 405 = .ok (.aload_n 0, 1) := dk_42 (dk_at dksX8_make_12 1 rfl rfl)
theorem dX8_make_406 : decode cX8_make 406 = .ok (.getfield 13, 3) := dk_180 0 13 (dk_at dksX8_make_12 2 rfl rfl)
theorem dX8_make_409 : decode cX8_make 409 = .ok (.aload_n 0, 1) := dk_42 (dk_at dksX8_make_12 5 rfl rfl)
theorem dX8_make_410 : decode cX8_make 410 = .ok (.getfield 17, 3) := dk_180 0 17 (dk_at dksX8_make_12 6 rfl rfl)
theorem dX8_make_413 : decode cX8_make 413 = .ok (.invokevirtual 58, 3) := dk_182 0 58 (dk_at dksX8_make_12 9 rfl rfl)
theorem dX8_make_416 : decode cX8_make 416 = .ok (.ireturn, 1) := dk_172 (dk_at dksX8_make_12 12 rfl rfl)
theorem dX8_make_417 : decode cX8_make 417 = .ok (.aload_n 1, 1) := dk_43 (dk_at dksX8_make_12 13 rfl rfl)
theorem dX8_make_418 : decode cX8_make 418 = .ok (.aload_n 0, 1) := dk_42 (dk_at dksX8_make_12 14 rfl rfl)
theorem dX8_make_419 : decode cX8_make 419 = .ok (.getfield 13, 3) := dk_180 0 13 (dk_at dksX8_make_12 15 rfl rfl)
theorem dX8_make_422 : decode cX8_make 422 = .ok (.invokevirtual 64, 3) := dk_182 0 64 (dk_at dksX8_make_12 18 rfl rfl)
theorem dX8_make_425 : decode cX8_make 425 = .ok (.ireturn, 1) := dk_172 (dk_at dksX8_make_12 21 rfl rfl)
theorem dX8_make_426 : decode cX8_make 426 = .ok (.aload_n 1, 1) := dk_43 (dk_at dksX8_make_12 22 rfl rfl)
theorem dX8_make_427 : decode cX8_make 427 = .ok (.aload_n 0, 1) := dk_42 (dk_at dksX8_make_12 23 rfl rfl)
theorem dX8_make_428 : decode cX8_make 428 = .ok (.getfield 13, 3) := dk_180 0 13 (dk_at dksX8_make_13 0 rfl rfl)
theorem dX8_make_431 : decode cX8_make 431 = .ok (.aload_n 0, 1) := dk_42 (dk_at dksX8_make_13 3 rfl rfl)
theorem dX8_make_432 : decode cX8_make 432 = .ok (.getfield 17, 3) := dk_180 0 17 (dk_at dksX8_make_13 4 rfl rfl)
theorem dX8_make_435 : decode cX8_make 435 = .ok (.invokevirtual 68, 3) := dk_182 0 68 (dk_at dksX8_make_13 7 rfl rfl)
theorem dX8_make_438 : decode cX8_make 438 = .ok (.ireturn, 1) := dk_172 (dk_at dksX8_make_13 10 rfl rfl)
theorem dX8_make_439 : decode cX8_make 439 = .ok (.aload_n 1, 1) := dk_43 (dk_at dksX8_make_13 11 rfl rfl)
theorem dX8_make_440 : decode cX8_make 440 = .ok (.aload_n 0, 1) := dk_42 (dk_at dksX8_make_13 12 rfl rfl)
theorem dX8_make_441 : decode cX8_make 441 = .ok (.getfield 13, 3) := dk_180 0 13 (dk_at dksX8_make_13 13 rfl rfl)
theorem dX8_make_444 : decode cX8_make 444 = .ok (.aload_n 0, 1) := dk_42 (dk_at dksX8_make_13 16 rfl rfl)
theorem dX8_make_445 : decode cX8_make 445 = .ok (.getfield 17, 3) := dk_180 0 17 (dk_at dksX8_make_13 17 rfl rfl)
theorem dX8_make_448 : decode cX8_make 448 = .ok (.ineg, 1) := dk_116 (dk_at dksX8_make_13 20 rfl rfl)
theorem dX8_make_449 : decode cX8_make 449 = .ok (.invokevirtual 68, 3) := dk_182 0 68 (dk_at dksX8_make_13 21 rfl rfl)
theorem dX8_make_452 : decode cX8_make 452 = .ok (.ireturn, 1) := dk_172 (dk_at dksX8_make_14 0 rfl rfl)
theorem dX8_make_453 : decode cX8_make 453 = .ok (.aload_n 1, 1) := dk_43 (dk_at dksX8_make_14 1 rfl rfl)
theorem dX8_make_454 : decode cX8_make 454 = .ok (.aload_n 0, 1) := dk_42 (dk_at dksX8_make_14 2 rfl rfl)
theorem dX8_make_455 : decode cX8_make 455 = .ok (.getfield 13, 3) := dk_180 0 13 (dk_at dksX8_make_14 3 rfl rfl)
theorem dX8_make_458 : decode cX8_make 458 = .ok (.aload_n 0, 1) := dk_42 (dk_at dksX8_make_14 6 rfl rfl)
theorem dX8_make_459 : decode cX8_make 459 = .ok (.getfield 17, 3) := dk_180 0 17 (dk_at dksX8_make_14 7 rfl rfl)
theorem dX8_make_462 : decode cX8_make 462 = .ok (.invokevirtual 71, 3) := dk_182 0 71 (dk_at dksX8_make_14 10 rfl rfl)
theorem dX8_make_465 : decode cX8_make 465 = .ok (.ireturn, 1) := dk_172 (dk_at dksX8_make_14 13 rfl rfl)
theorem dX8_make_466 : decode cX8_make 466 = .ok (.aload_n 1, 1) := dk_43 (dk_at dksX8_make_14 14 rfl rfl)
theorem dX8_make_467 : decode cX8_make 467 = .ok (.invokevirtual 74, 3) := dk_182 0 74 (dk_at dksX8_make_14 15 rfl rfl)
theorem dX8_make_470 : decode cX8_make 470 = .ok (.ireturn, 1) := dk_172 (dk_at dksX8_make_14 18 rfl rfl)
theorem dX8_make_471 : decode cX8_make 471 = .ok (.aload_n 1, 1) := dk_43 (dk_at dksX8_make_14 19 rfl rfl)
theorem dX8_make_472 : decode cX8_make 472 = .ok (.aload_n 0, 1) := dk_42 (dk_at dksX8_make_14 20 rfl rfl)
theorem dX8_make_473 : decode cX8_make 473 = .ok (.getfield 13, 3) := dk_180 0 13 (dk_at dksX8_make_14 21 rfl rfl)
theorem dX8_make_476 : decode cX8_make 476 = .ok (.iconst 1, 1) := dk_4 (dk_at dksX8_make_15 0 rfl rfl)
theorem dX8_make_477 : decode cX8_make 477 = .ok (.invokevirtual 76, 3) := dk_182 0 76 (dk_at dksX8_make_15 1 rfl rfl)
theorem dX8_make_480 : decode cX8_make 480 = .ok (.ireturn, 1) := dk_172 (dk_at dksX8_make_15 4 rfl rfl)
theorem dX8_make_481 : decode cX8_make 481 = .ok (.aload_n 1, 1) := dk_43 (dk_at dksX8_make_15 5 rfl rfl)
theorem dX8_make_482 : decode cX8_make 482 = .ok (.aload_n 0, 1) := dk_42 (dk_at dksX8_make_15 6 rfl rfl)
theorem dX8_make_483 : decode cX8_make 483 = .ok (.getfield 13, 3) := dk_180 0 13 (dk_at dksX8_make_15 7 rfl rfl)
theorem dX8_make_486 : decode cX8_make 486 = .ok (.iconst 0, 1) := dk_3 (dk_at dksX8_make_15 10 rfl rfl)
theorem dX8_make_487 : decode cX8_make 487 = .ok (.invokevirtual 76, 3) := dk_182 0 76 (dk_at dksX8_make_15 11 rfl rfl)
theorem dX8_make_490 : decode cX8_make 490 = .ok (.ireturn, 1) := dk_172 (dk_at dksX8_make_15 14 rfl rfl)
theorem dX8_make_491 : decode cX8_make 491 = .ok (.aload_n 1, 1) := dk_43 (dk_at dksX8_make_15 15 rfl rfl)
theorem dX8_make_492 : decode cX8_make 492 = .ok (.aload_n 0, 1) := dk_42 (dk_at dksX8_make_15 16 rfl rfl)
theorem dX8_make_493 : decode cX8_make 493 = .ok (.getfield 13, 3) := dk_180 0 13 (dk_at dksX8_make_15 17 rfl rfl)
theorem dX8_make_496 : decode cX8_make 496 = .ok (.invokevirtual 80, 3) := dk_182 0 80 (dk_at dksX8_make_15 20 rfl rfl)
theorem dX8_make_499 : decode cX8_make 499 = .ok (.ireturn, 1) := dk_172 (dk_at dksX8_make_15 23 rfl rfl)
theorem dX8_make_500 : decode cX8_make 500 = .ok (.aload_n 1, 1) := dk_43 (dk_at dksX8_make_16 0 rfl rfl)
theorem dX8_make_501 : decode cX8_make 501 = .ok (.aload_n 0, 1) := dk_42 (dk_at dksX8_make_16 1 rfl rfl)
theorem dX8_make_502 : decode cX8_make 502 = .ok (.getfield 13, 3) := dk_180 0 13 (dk_at dksX8_make_16 2 rfl rfl)
theorem dX8_make_505 : decode cX8_make 505 = .ok (.invokevirtual 83, 3) := dk_182 0 83 (dk_at dksX8_make_16 5 rfl rfl)
theorem dX8_make_508 : decode cX8_make 508 = .ok (.ireturn, 1) := dk_172 (dk_at dksX8_make_16 8 rfl rfl)
theorem dX8_make_509 : decode cX8_make 509 = .ok (.aload_n 1, 1) := dk_43 (dk_at dksX8_make_16 9 rfl rfl)
theorem dX8_make_510 : decode cX8_make 510 = .ok (.getfield 86, 3) := dk_180 0 86 (dk_at dksX8_make_16 10 rfl rfl)
theorem dX8_make_513 : decode cX8_make 513 = .ok (.new 90, 3) := dk_187 0 90 (dk_at dksX8_make_16 13 rfl rfl)
theorem dX8_make_516 : decode cX8_make 516 = .ok (.dup, 1) := dk_89 (dk_at dksX8_make_16 16 rfl rfl)
theorem dX8_make_517 : decode cX8_make 517 = .ok (.aload_n 1, 1) := dk_43 (dk_at dksX8_make_16 17 rfl rfl)
theorem dX8_make_518 : decode cX8_make 518 = .ok (.getfield 86, 3) := dk_180 0 86 (dk_at dksX8_make_16 18 rfl rfl)
theorem dX8_make_521 : decode cX8_make 521 = .ok (.invokevirtual 92, 3) := dk_182 0 92 (dk_at dksX8_make_16 21 rfl rfl)
theorem dX8_make_524 : decode cX8_make 524 = .ok (.invokespecial 97, 3) := dk_183 0 97 (dk_at dksX8_make_17 0 rfl rfl)
theorem dX8_make_527 : decode cX8_make 527 = .ok (.invokevirtual 100, 3) := dk_182 0 100 (dk_at dksX8_make_17 3 rfl rfl)
theorem dX8_make_530 : decode cX8_make 530 = .ok (.ireturn, 1) := dk_172 (dk_at dksX8_make_17 6 rfl rfl)
theorem dX8_make_531 : decode cX8_make 531 = .ok (.aload_n 1, 1) := dk_43 (dk_at dksX8_make_17 7 rfl rfl)
theorem dX8_make_532 : decode cX8_make 532 = .ok (.aload_n 0, 1) := dk_42 (dk_at dksX8_make_17 8 rfl rfl)
theorem dX8_make_533 : decode cX8_make 533 = .ok (.getfield 13, 3) := dk_180 0 13 (dk_at dksX8_make_17 9 rfl rfl)
theorem dX8_make_536 : decode cX8_make 536 = .ok (.invokevirtual 104, 3) := dk_182 0 104 (dk_at dksX8_make_17 12 rfl rfl)
theorem dX8_make_539 : decode cX8_make 539 = .ok (.ireturn, 1) := dk_172 (dk_at dksX8_make_17 15 rfl rfl)
theorem dX8_make_540 : decode cX8_make 540 = .ok (.aload_n 1, 1) := dk_43 (dk_at dksX8_make_17 16 rfl rfl)
theorem dX8_make_541 : decode cX8_make 541 = .ok (.aload_n 0, 1) := dk_42 (dk_at dksX8_make_17 17 rfl rfl)
theorem dX8_make_542 : decode cX8_make 542 = .ok (.getfield 13, 3) := dk_180 0 13 (dk_at dksX8_make_17 18 rfl rfl)
theorem dX8_make_545 : decode cX8_make 545 = .ok (.invokevirtual 107, 3) := dk_182 0 107 (dk_at dksX8_make_17 21 rfl rfl)
theorem dX8_make_548 : decode cX8_make 548 = .ok (.ireturn, 1) := dk_172 (dk_at dksX8_make_18 0 rfl rfl)
theorem dX8_make_549 : decode cX8_make 549 = .ok (.aload_n 1, 1) := dk_43 (dk_at dksX8_make_18 1 rfl rfl)
theorem dX8_make_550 : decode cX8_make 550 = .ok (.aload_n 0, 1) := dk_42 (dk_at dksX8_make_18 2 rfl rfl)
theorem dX8_make_551 : decode cX8_make 551 = .ok (.getfield 13, 3) := dk_180 0 13 (dk_at dksX8_make_18 3 rfl rfl)
theorem dX8_make_554 : decode cX8_make 554 = .ok (.aload_n 0, 1) := dk_42 (dk_at dksX8_make_18 6 rfl rfl)
theorem dX8_make_555 : decode cX8_make 555 = .ok (.getfield 17, 3) := dk_180 0 17 (dk_at dksX8_make_18 7 rfl rfl)
theorem dX8_make_558 : decode cX8_make 558 = .ok (.invokevirtual 110, 3) := dk_182 0 110 (dk_at dksX8_make_18 10 rfl rfl)
theorem dX8_make_561 : decode cX8_make 561 = .ok (.ireturn, 1) := dk_172 (dk_at dksX8_make_18 13 rfl rfl)
theorem dX8_make_562 : decode cX8_make 562 = .ok (.aload_n 1, 1) := dk_43 (dk_at dksX8_make_18 14 rfl rfl)
theorem dX8_make_563 : decode cX8_make 563 = .ok (.aload_n 0, 1) := dk_42 (dk_at dksX8_make_18 15 rfl rfl)
theorem dX8_make_564 : decode cX8_make 564 = .ok (.getfield 13, 3) := dk_180 0 13 (dk_at dksX8_make_18 16 rfl rfl)
theorem dX8_make_567 : decode cX8_make 567 = .ok (.aload_n 0, 1) := dk_42 (dk_at dksX8_make_18 19 rfl rfl)
theorem dX8_make_568 : decode cX8_make 568 = .ok (.getfield 17, 3) := dk_180 0 17 (dk_at dksX8_make_18 20 rfl rfl)
theorem dX8_make_571 : decode cX8_make 571 = .ok (.invokevirtual 113, 3) := dk_182 0 113 (dk_at dksX8_make_19 0 rfl rfl)
theorem dX8_make_574 : decode cX8_make 574 = .ok (.ireturn, 1) := dk_172 (dk_at dksX8_make_19 3 rfl rfl)
theorem q95 : (Jvm.Cond.initialized "CurtainRiggers$Change") ∈ lw_all := lw_g (lw_at lw_m1 27 rfl) rfl
theorem q176 : (Jvm.Cond.fieldLinkNest "CurtainRiggers$Change" (86 : Nat) "CurtainRiggers$Theatre" "bars" "LCurtainRiggers$Row;" "CurtainRiggers") ∈ lw_tbl := lw_at lw_m1 108 rfl
theorem q681 : (Jvm.Cond.selects "CurtainRiggers$Change" ({ cls := "java/lang/Object", name := "getClass", desc := "()Ljava/lang/Class;" } : Jvm.MethodName) ({ cls := "java/lang/Object", name := "getClass", desc := "()Ljava/lang/Class;" } : Jvm.MethodName)) ∈ lw_all := lw_g (lw_at lw_m3 133 rfl) rfl
theorem q1345 : (Jvm.Cond.instantiable "CurtainRiggers$Change" (3 : Nat)) ∈ lw_all := lw_g (lw_at lw_m6 77 rfl) rfl
theorem q1347 : (Jvm.Cond.instanceMethod ({ cls := "CurtainRiggers$Change", name := "<init>", desc := "(Ljava/lang/String;II)V" } : Jvm.MethodName)) ∈ lw_all := lw_g (lw_at lw_m6 79 rfl) rfl
theorem q1348 : (Jvm.Cond.code ({ cls := "CurtainRiggers$Change", name := "<init>", desc := "(Ljava/lang/String;II)V" } : Jvm.MethodName) prog_6_method_1_code (4 : Nat) (Option.none : Option Jvm.ClassFile.FieldType)) ∈ lw_all := lw_g (lw_at lw_m6 80 rfl) rfl
theorem q1349 : (Jvm.Cond.methodLink "CurtainRiggers$Change" (1 : Nat) ({ cls := "java/lang/Object", name := "<init>", desc := "()V" } : Jvm.MethodName)) ∈ lw_all := lw_g (lw_at lw_m6 81 rfl) rfl
theorem q1350 : (Jvm.Cond.fieldLink "CurtainRiggers$Change" (7 : Nat) "CurtainRiggers$Change" "word" "Ljava/lang/String;") ∈ lw_all := lw_g (lw_at lw_m6 82 rfl) rfl
theorem q1351 : (Jvm.Cond.fieldLink "CurtainRiggers$Change" (13 : Nat) "CurtainRiggers$Change" "one" "I") ∈ lw_all := lw_g (lw_at lw_m6 83 rfl) rfl
theorem q1352 : (Jvm.Cond.fieldLink "CurtainRiggers$Change" (17 : Nat) "CurtainRiggers$Change" "other" "I") ∈ lw_all := lw_g (lw_at lw_m6 84 rfl) rfl
theorem q1353 : (Jvm.Cond.laysFinal "CurtainRiggers$Change" "CurtainRiggers$Change" "word" "Ljava/lang/String;") ∈ lw_all := lw_g (lw_at lw_m6 85 rfl) rfl
theorem q1354 : (Jvm.Cond.soleField "CurtainRiggers$Change" "word") ∈ lw_all := lw_g (lw_at lw_m6 86 rfl) rfl
theorem q1355 : (Jvm.Cond.laysFinal "CurtainRiggers$Change" "CurtainRiggers$Change" "one" "I") ∈ lw_all := lw_g (lw_at lw_m6 87 rfl) rfl
theorem q1356 : (Jvm.Cond.soleField "CurtainRiggers$Change" "one") ∈ lw_all := lw_g (lw_at lw_m6 88 rfl) rfl
theorem q1357 : (Jvm.Cond.laysFinal "CurtainRiggers$Change" "CurtainRiggers$Change" "other" "I") ∈ lw_all := lw_g (lw_at lw_m6 89 rfl) rfl
theorem q1358 : (Jvm.Cond.soleField "CurtainRiggers$Change" "other") ∈ lw_all := lw_g (lw_at lw_m6 90 rfl) rfl
theorem q1359 : (Jvm.Cond.superclass "CurtainRiggers$Change" "java/lang/Object") ∈ lw_all := lw_g (lw_at lw_m6 91 rfl) rfl
theorem q1361 : (Jvm.Cond.instanceMethod ({ cls := "CurtainRiggers$Change", name := "make", desc := "(LCurtainRiggers$Theatre;)I" } : Jvm.MethodName)) ∈ lw_all := lw_g (lw_at lw_m6 93 rfl) rfl
theorem q1362 : (Jvm.Cond.selects "CurtainRiggers$Change" ({ cls := "CurtainRiggers$Change", name := "make", desc := "(LCurtainRiggers$Theatre;)I" } : Jvm.MethodName) ({ cls := "CurtainRiggers$Change", name := "make", desc := "(LCurtainRiggers$Theatre;)I" } : Jvm.MethodName)) ∈ lw_all := lw_g (lw_at lw_m6 94 rfl) rfl
theorem q1363 : (Jvm.Cond.code ({ cls := "CurtainRiggers$Change", name := "make", desc := "(LCurtainRiggers$Theatre;)I" } : Jvm.MethodName) prog_6_method_2_code (4 : Nat) (Option.some Jvm.ClassFile.FieldType.int)) ∈ lw_all := lw_g (lw_at lw_m6 95 rfl) rfl
theorem q1364 : (Jvm.Cond.methodLink "CurtainRiggers$Change" (20 : Nat) ({ cls := "java/lang/String", name := "hashCode", desc := "()I" } : Jvm.MethodName)) ∈ lw_all := lw_g (lw_at lw_m6 96 rfl) rfl
theorem q1425 : (Jvm.Cond.stringRef "CurtainRiggers$Change" (26 : Nat) "hang ") ∈ lw_tbl := lw_at lw_m6 157 rfl
theorem q1426 : (Jvm.Cond.methodLink "CurtainRiggers$Change" (28 : Nat) ({ cls := "java/lang/String", name := "equals", desc := "(Ljava/lang/Object;)Z" } : Jvm.MethodName)) ∈ lw_all := lw_g (lw_at lw_m6 158 rfl) rfl
theorem q1434 : (Jvm.Cond.stringRef "CurtainRiggers$Change" (32 : Nat) "drop ") ∈ lw_tbl := lw_at lw_m6 166 rfl
theorem q1435 : (Jvm.Cond.stringRef "CurtainRiggers$Change" (34 : Nat) "add ") ∈ lw_tbl := lw_at lw_m6 167 rfl
theorem q1436 : (Jvm.Cond.stringRef "CurtainRiggers$Change" (36 : Nat) "off ") ∈ lw_tbl := lw_at lw_m6 168 rfl
theorem q1437 : (Jvm.Cond.stringRef "CurtainRiggers$Change" (38 : Nat) "fly ") ∈ lw_tbl := lw_at lw_m6 169 rfl
theorem q1438 : (Jvm.Cond.stringRef "CurtainRiggers$Change" (40 : Nat) "go") ∈ lw_tbl := lw_at lw_m6 170 rfl
theorem q1439 : (Jvm.Cond.stringRef "CurtainRiggers$Change" (42 : Nat) "open ") ∈ lw_tbl := lw_at lw_m6 171 rfl
theorem q1440 : (Jvm.Cond.stringRef "CurtainRiggers$Change" (44 : Nat) "close ") ∈ lw_tbl := lw_at lw_m6 172 rfl
theorem q1441 : (Jvm.Cond.stringRef "CurtainRiggers$Change" (46 : Nat) "year") ∈ lw_tbl := lw_at lw_m6 173 rfl
theorem q1442 : (Jvm.Cond.stringRef "CurtainRiggers$Change" (48 : Nat) "told") ∈ lw_tbl := lw_at lw_m6 174 rfl
theorem q1443 : (Jvm.Cond.stringRef "CurtainRiggers$Change" (50 : Nat) "bar") ∈ lw_tbl := lw_at lw_m6 175 rfl
theorem q1444 : (Jvm.Cond.stringRef "CurtainRiggers$Change" (52 : Nat) "rope") ∈ lw_tbl := lw_at lw_m6 176 rfl
theorem q1445 : (Jvm.Cond.stringRef "CurtainRiggers$Change" (54 : Nat) "curtain") ∈ lw_tbl := lw_at lw_m6 177 rfl
theorem q1446 : (Jvm.Cond.stringRef "CurtainRiggers$Change" (56 : Nat) "hand") ∈ lw_tbl := lw_at lw_m6 178 rfl
theorem q1447 : (Jvm.Cond.methodLink "CurtainRiggers$Change" (58 : Nat) ({ cls := "CurtainRiggers$Theatre", name := "hang", desc := "(II)I" } : Jvm.MethodName)) ∈ lw_all := lw_g (lw_at lw_m6 179 rfl) rfl
theorem q1485 : (Jvm.Cond.methodLink "CurtainRiggers$Change" (64 : Nat) ({ cls := "CurtainRiggers$Theatre", name := "drop", desc := "(I)I" } : Jvm.MethodName)) ∈ lw_all := lw_g (lw_at lw_m6 217 rfl) rfl
theorem q1489 : (Jvm.Cond.methodLink "CurtainRiggers$Change" (68 : Nat) ({ cls := "CurtainRiggers$Theatre", name := "addWeights", desc := "(II)I" } : Jvm.MethodName)) ∈ lw_all := lw_g (lw_at lw_m6 221 rfl) rfl
theorem q1504 : (Jvm.Cond.methodLink "CurtainRiggers$Change" (71 : Nat) ({ cls := "CurtainRiggers$Theatre", name := "fly", desc := "(II)I" } : Jvm.MethodName)) ∈ lw_all := lw_g (lw_at lw_m6 236 rfl) rfl
theorem q1514 : (Jvm.Cond.methodLink "CurtainRiggers$Change" (74 : Nat) ({ cls := "CurtainRiggers$Theatre", name := "go", desc := "()I" } : Jvm.MethodName)) ∈ lw_all := lw_g (lw_at lw_m7 6 rfl) rfl
theorem q1515 : (Jvm.Cond.methodLink "CurtainRiggers$Change" (76 : Nat) ({ cls := "CurtainRiggers$Theatre", name := "setDoor", desc := "(IZ)I" } : Jvm.MethodName)) ∈ lw_all := lw_g (lw_at lw_m7 7 rfl) rfl
theorem q1521 : (Jvm.Cond.methodLink "CurtainRiggers$Change" (80 : Nat) ({ cls := "CurtainRiggers$Theatre", name := "age", desc := "(I)I" } : Jvm.MethodName)) ∈ lw_all := lw_g (lw_at lw_m7 13 rfl) rfl
theorem q1526 : (Jvm.Cond.methodLink "CurtainRiggers$Change" (83 : Nat) ({ cls := "CurtainRiggers$Theatre", name := "setTold", desc := "(I)I" } : Jvm.MethodName)) ∈ lw_all := lw_g (lw_at lw_m7 18 rfl) rfl
theorem q1531 : (Jvm.Cond.classLink "CurtainRiggers$Change" (90 : Nat) "CurtainRiggers$Bar") ∈ lw_all := lw_g (lw_at lw_m7 23 rfl) rfl
theorem q1532 : (Jvm.Cond.methodLink "CurtainRiggers$Change" (92 : Nat) ({ cls := "CurtainRiggers$Row", name := "size", desc := "()I" } : Jvm.MethodName)) ∈ lw_all := lw_g (lw_at lw_m7 24 rfl) rfl
theorem q1533 : (Jvm.Cond.methodLink "CurtainRiggers$Change" (97 : Nat) ({ cls := "CurtainRiggers$Bar", name := "<init>", desc := "(I)V" } : Jvm.MethodName)) ∈ lw_all := lw_g (lw_at lw_m7 25 rfl) rfl
theorem q1534 : (Jvm.Cond.methodLink "CurtainRiggers$Change" (100 : Nat) ({ cls := "CurtainRiggers$Row", name := "add", desc := "(LCurtainRiggers$Numbered;)I" } : Jvm.MethodName)) ∈ lw_all := lw_g (lw_at lw_m7 26 rfl) rfl
theorem q1560 : (Jvm.Cond.methodLink "CurtainRiggers$Change" (104 : Nat) ({ cls := "CurtainRiggers$Theatre", name := "renew", desc := "(I)I" } : Jvm.MethodName)) ∈ lw_all := lw_g (lw_at lw_m7 52 rfl) rfl
theorem q1564 : (Jvm.Cond.methodLink "CurtainRiggers$Change" (107 : Nat) ({ cls := "CurtainRiggers$Theatre", name := "addCurtain", desc := "(I)I" } : Jvm.MethodName)) ∈ lw_all := lw_g (lw_at lw_m7 56 rfl) rfl
theorem q1572 : (Jvm.Cond.methodLink "CurtainRiggers$Change" (110 : Nat) ({ cls := "CurtainRiggers$Theatre", name := "addHand", desc := "(II)I" } : Jvm.MethodName)) ∈ lw_all := lw_g (lw_at lw_m7 64 rfl) rfl
theorem q1583 : (Jvm.Cond.methodLink "CurtainRiggers$Change" (113 : Nat) ({ cls := "CurtainRiggers$Theatre", name := "moveHand", desc := "(II)I" } : Jvm.MethodName)) ∈ lw_all := lw_g (lw_at lw_m7 75 rfl) rfl
theorem q2715 : (Jvm.Cond.castable "CurtainRiggers$Change" "java/lang/Object") ∈ lw_tbl := lw_at lw_m12 7 rfl
theorem in_X8 : ∀ w ∈ wsX80, w ∈ lw_all := lw_in wsX80 [1353, 1355, 1357] (by decide +kernel) (by decide +kernel)

/-! CurtainRiggers$Numbered -/
set_option maxRecDepth 100000
def RX9 : String := "CurtainRiggers$Numbered"
abbrev cX9_isAheadByNumber : ByteArray := prog_11_method_3_code
def yX9_isAheadByNumber : MethodName := ⟨RX9, "isAheadByNumber", "(LCurtainRiggers$Numbered;)Z"⟩
def dkwX9_isAheadByNumber_0 : List UInt8 := [42, 185, 0, 3, 1, 0, 43, 185, 0, 3, 1, 0, 162, 0, 7, 4, 167, 0, 4, 3, 172]
abbrev dktX9_isAheadByNumber_0 : List UInt8 := dkwX9_isAheadByNumber_0 ++ []
theorem dksX9_isAheadByNumber_0 : cX9_isAheadByNumber.data.toList.drop 0 = dktX9_isAheadByNumber_0 := by decide +kernel
theorem dX9_isAheadByNumber_0 : decode cX9_isAheadByNumber 0 = .ok (.aload_n 0, 1) := dk_42 (dk_at dksX9_isAheadByNumber_0 0 rfl rfl)
theorem dX9_isAheadByNumber_1 : decode cX9_isAheadByNumber 1 = .ok (.invokeinterface 3 1, 5) := by decide +kernel
theorem dX9_isAheadByNumber_6 : decode cX9_isAheadByNumber 6 = .ok (.aload_n 1, 1) := dk_43 (dk_at dksX9_isAheadByNumber_0 6 rfl rfl)
theorem dX9_isAheadByNumber_7 : decode cX9_isAheadByNumber 7 = .ok (.invokeinterface 3 1, 5) := by decide +kernel
theorem dX9_isAheadByNumber_12 : decode cX9_isAheadByNumber 12 = .ok (.if_icmp .ge 7, 3) := dk_162 0 7 (dk_at dksX9_isAheadByNumber_0 12 rfl rfl)
theorem dX9_isAheadByNumber_15 : decode cX9_isAheadByNumber 15 = .ok (.iconst 1, 1) := dk_4 (dk_at dksX9_isAheadByNumber_0 15 rfl rfl)
theorem dX9_isAheadByNumber_16 : decode cX9_isAheadByNumber 16 = .ok (.goto 4, 3) := dk_167 0 4 (dk_at dksX9_isAheadByNumber_0 16 rfl rfl)
theorem dX9_isAheadByNumber_19 : decode cX9_isAheadByNumber 19 = .ok (.iconst 0, 1) := dk_3 (dk_at dksX9_isAheadByNumber_0 19 rfl rfl)
theorem dX9_isAheadByNumber_20 : decode cX9_isAheadByNumber 20 = .ok (.ireturn, 1) := dk_172 (dk_at dksX9_isAheadByNumber_0 20 rfl rfl)
abbrev cX9_checked : ByteArray := prog_11_method_4_code
def yX9_checked : MethodName := ⟨RX9, "checked", "(LCurtainRiggers$Row;I)LCurtainRiggers$Numbered;"⟩
def dkwX9_checked_0 : List UInt8 := [27, 133, 9, 42, 182, 0, 9, 4, 100, 133, 184, 0, 14, 184, 0, 18, 42, 27, 182, 0, 22, 176]
abbrev dktX9_checked_0 : List UInt8 := dkwX9_checked_0 ++ []
theorem dksX9_checked_0 : cX9_checked.data.toList.drop 0 = dktX9_checked_0 := by decide +kernel
theorem dX9_checked_0 : decode cX9_checked 0 = .ok (.iload_n 1, 1) := dk_27 (dk_at dksX9_checked_0 0 rfl rfl)
theorem dX9_checked_1 : decode cX9_checked 1 = .ok (.i2l, 1) := dk_133 (dk_at dksX9_checked_0 1 rfl rfl)
theorem dX9_checked_2 : decode cX9_checked 2 = .ok (.lconst 0, 1) := dk_9 (dk_at dksX9_checked_0 2 rfl rfl)
theorem dX9_checked_3 : decode cX9_checked 3 = .ok (.aload_n 0, 1) := dk_42 (dk_at dksX9_checked_0 3 rfl rfl)
theorem dX9_checked_4 : decode cX9_checked 4 = .ok (.invokevirtual 9, 3) := dk_182 0 9 (dk_at dksX9_checked_0 4 rfl rfl)
theorem dX9_checked_7 : decode cX9_checked 7 = .ok (.iconst 1, 1) := dk_4 (dk_at dksX9_checked_0 7 rfl rfl)
theorem dX9_checked_8 : decode cX9_checked 8 = .ok (.isub, 1) := dk_100 (dk_at dksX9_checked_0 8 rfl rfl)
theorem dX9_checked_9 : decode cX9_checked 9 = .ok (.i2l, 1) := dk_133 (dk_at dksX9_checked_0 9 rfl rfl)
theorem dX9_checked_10 : decode cX9_checked 10 = .ok (.invokestatic 14, 3) := dk_184 0 14 (dk_at dksX9_checked_0 10 rfl rfl)
theorem dX9_checked_13 : decode cX9_checked 13 = .ok (.invokestatic 18, 3) := dk_184 0 18 (dk_at dksX9_checked_0 13 rfl rfl)
theorem dX9_checked_16 : decode cX9_checked 16 = .ok (.aload_n 0, 1) := dk_42 (dk_at dksX9_checked_0 16 rfl rfl)
theorem dX9_checked_17 : decode cX9_checked 17 = .ok (.iload_n 1, 1) := dk_27 (dk_at dksX9_checked_0 17 rfl rfl)
theorem dX9_checked_18 : decode cX9_checked 18 = .ok (.invokevirtual 22, 3) := dk_182 0 22 (dk_at dksX9_checked_0 18 rfl rfl)
theorem dX9_checked_21 : decode cX9_checked 21 = .ok (.areturn, 1) := dk_176 (dk_at dksX9_checked_0 21 rfl rfl)
abbrev cX9_numberOf : ByteArray := prog_11_method_5_code
def yX9_numberOf : MethodName := ⟨RX9, "numberOf", "(LCurtainRiggers$Numbered;)I"⟩
def dkwX9_numberOf_0 : List UInt8 := [42, 199, 0, 7, 2, 167, 0, 9, 42, 185, 0, 3, 1, 0, 172]
abbrev dktX9_numberOf_0 : List UInt8 := dkwX9_numberOf_0 ++ []
theorem dksX9_numberOf_0 : cX9_numberOf.data.toList.drop 0 = dktX9_numberOf_0 := by decide +kernel
theorem dX9_numberOf_0 : decode cX9_numberOf 0 = .ok (.aload_n 0, 1) := dk_42 (dk_at dksX9_numberOf_0 0 rfl rfl)
theorem dX9_numberOf_1 : decode cX9_numberOf 1 = .ok (.ifnonnull 7, 3) := dk_199 0 7 (dk_at dksX9_numberOf_0 1 rfl rfl)
theorem dX9_numberOf_4 : decode cX9_numberOf 4 = .ok (.iconst (-1), 1) := dk_2 (dk_at dksX9_numberOf_0 4 rfl rfl)
theorem dX9_numberOf_5 : decode cX9_numberOf 5 = .ok (.goto 9, 3) := dk_167 0 9 (dk_at dksX9_numberOf_0 5 rfl rfl)
theorem dX9_numberOf_8 : decode cX9_numberOf 8 = .ok (.aload_n 0, 1) := dk_42 (dk_at dksX9_numberOf_0 8 rfl rfl)
theorem dX9_numberOf_9 : decode cX9_numberOf 9 = .ok (.invokeinterface 3 1, 5) := by decide +kernel
theorem dX9_numberOf_14 : decode cX9_numberOf 14 = .ok (.ireturn, 1) := dk_172 (dk_at dksX9_numberOf_0 14 rfl rfl)
theorem q100 : (Jvm.Cond.initialized "CurtainRiggers$Numbered") ∈ lw_all := lw_g (lw_at lw_m1 32 rfl) rfl
theorem q511 : (Jvm.Cond.interfaceMethod "CurtainRiggers$Numbered" "CurtainRiggers$Numbered" "copy" "()LCurtainRiggers$Numbered;") ∈ lw_tbl := lw_at lw_m2 203 rfl
theorem q512 : (Jvm.Cond.declares ({ cls := "CurtainRiggers$Numbered", name := "copy", desc := "()LCurtainRiggers$Numbered;" } : Jvm.MethodName)) ∈ lw_tbl := lw_at lw_m2 204 rfl
theorem q772 : (Jvm.Cond.declares ({ cls := "CurtainRiggers$Numbered", name := "isAheadByNumber", desc := "(LCurtainRiggers$Numbered;)Z" } : Jvm.MethodName)) ∈ lw_tbl := lw_at lw_m3 224 rfl
theorem q774 : (Jvm.Cond.instanceMethod ({ cls := "CurtainRiggers$Numbered", name := "isAheadByNumber", desc := "(LCurtainRiggers$Numbered;)Z" } : Jvm.MethodName)) ∈ lw_all := lw_g (lw_at lw_m3 226 rfl) rfl
theorem q775 : (Jvm.Cond.publicMethod ({ cls := "CurtainRiggers$Numbered", name := "isAheadByNumber", desc := "(LCurtainRiggers$Numbered;)Z" } : Jvm.MethodName)) ∈ lw_tbl := lw_at lw_m3 227 rfl
theorem q776 : (Jvm.Cond.code ({ cls := "CurtainRiggers$Numbered", name := "isAheadByNumber", desc := "(LCurtainRiggers$Numbered;)Z" } : Jvm.MethodName) prog_11_method_3_code (2 : Nat) (Option.some Jvm.ClassFile.FieldType.boolean)) ∈ lw_all := lw_g (lw_at lw_m3 228 rfl) rfl
theorem q777 : (Jvm.Cond.interfaceEntry "CurtainRiggers$Numbered" (3 : Nat)) ∈ lw_tbl := lw_at lw_m3 229 rfl
theorem q778 : (Jvm.Cond.methodLink "CurtainRiggers$Numbered" (3 : Nat) ({ cls := "CurtainRiggers$Numbered", name := "number", desc := "()I" } : Jvm.MethodName)) ∈ lw_all := lw_g (lw_at lw_m3 230 rfl) rfl
theorem q779 : (Jvm.Cond.interfaceMethod "CurtainRiggers$Numbered" "CurtainRiggers$Numbered" "number" "()I") ∈ lw_tbl := lw_at lw_m3 231 rfl
theorem q780 : (Jvm.Cond.declares ({ cls := "CurtainRiggers$Numbered", name := "number", desc := "()I" } : Jvm.MethodName)) ∈ lw_tbl := lw_at lw_m3 232 rfl
theorem q1456 : (Jvm.Cond.static ({ cls := "CurtainRiggers$Numbered", name := "checked", desc := "(LCurtainRiggers$Row;I)LCurtainRiggers$Numbered;" } : Jvm.MethodName)) ∈ lw_all := lw_g (lw_at lw_m6 188 rfl) rfl
theorem q1457 : (Jvm.Cond.code ({ cls := "CurtainRiggers$Numbered", name := "checked", desc := "(LCurtainRiggers$Row;I)LCurtainRiggers$Numbered;" } : Jvm.MethodName) prog_11_method_4_code (2 : Nat) (Option.some (Jvm.ClassFile.FieldType.object "CurtainRiggers$Numbered"))) ∈ lw_all := lw_g (lw_at lw_m6 189 rfl) rfl
theorem q1458 : (Jvm.Cond.methodLink "CurtainRiggers$Numbered" (9 : Nat) ({ cls := "CurtainRiggers$Row", name := "size", desc := "()I" } : Jvm.MethodName)) ∈ lw_all := lw_g (lw_at lw_m6 190 rfl) rfl
theorem q1459 : (Jvm.Cond.methodLinkNest "CurtainRiggers$Numbered" (14 : Nat) ({ cls := "CurtainRiggers", name := "inRange", desc := "(JJJ)Z" } : Jvm.MethodName) "CurtainRiggers") ∈ lw_tbl := lw_at lw_m6 191 rfl
theorem q1462 : (Jvm.Cond.methodLinkNest "CurtainRiggers$Numbered" (18 : Nat) ({ cls := "CurtainRiggers", name := "checkIndex", desc := "(Z)V" } : Jvm.MethodName) "CurtainRiggers") ∈ lw_tbl := lw_at lw_m6 194 rfl
theorem q1470 : (Jvm.Cond.methodLink "CurtainRiggers$Numbered" (22 : Nat) ({ cls := "CurtainRiggers$Row", name := "get", desc := "(I)LCurtainRiggers$Numbered;" } : Jvm.MethodName)) ∈ lw_all := lw_g (lw_at lw_m6 202 rfl) rfl
theorem q1801 : (Jvm.Cond.static ({ cls := "CurtainRiggers$Numbered", name := "numberOf", desc := "(LCurtainRiggers$Numbered;)I" } : Jvm.MethodName)) ∈ lw_all := lw_g (lw_at lw_m8 53 rfl) rfl
theorem q1802 : (Jvm.Cond.code ({ cls := "CurtainRiggers$Numbered", name := "numberOf", desc := "(LCurtainRiggers$Numbered;)I" } : Jvm.MethodName) prog_11_method_5_code (1 : Nat) (Option.some Jvm.ClassFile.FieldType.int)) ∈ lw_all := lw_g (lw_at lw_m8 54 rfl) rfl
