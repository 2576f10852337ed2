/-! what callers ask of each method (written by tools/mi.py) -/
abbrev w_J0_init : Cond := Cond.code yJ0_init cJ0_init 1 none
theorem mi_J0_init : gMi yJ0_init w_J0_init 1 0 := ⟨Or.inl ⟨_, _, rfl⟩, q148, q72, by decide +kernel, by decide +kernel⟩
theorem pf_J0_init : plainFor yJ0_init = true := by decide +kernel
abbrev w_J1_init : Cond := Cond.code yJ1_init cJ1_init 1 none
theorem mi_J1_init : gMi yJ1_init w_J1_init 1 0 := ⟨Or.inl ⟨_, _, rfl⟩, q145, q73, by decide +kernel, by decide +kernel⟩
theorem pf_J1_init : plainFor yJ1_init = true := by decide +kernel
abbrev w_J10_checkFromIndexSize : Cond := Cond.code yJ10_checkFromIndexSize cJ10_checkFromIndexSize 4 (some .int)
theorem mi_J10_checkFromIndexSize : gMi yJ10_checkFromIndexSize w_J10_checkFromIndexSize 4 4 := ⟨Or.inl ⟨_, _, rfl⟩, q923, q83, by decide +kernel, by decide +kernel⟩
theorem pf_J10_checkFromIndexSize : plainFor yJ10_checkFromIndexSize = true := by decide +kernel
abbrev w_J10_checkFromToIndex : Cond := Cond.code yJ10_checkFromToIndex cJ10_checkFromToIndex 4 (some .int)
theorem mi_J10_checkFromToIndex : gMi yJ10_checkFromToIndex w_J10_checkFromToIndex 4 4 := ⟨Or.inl ⟨_, _, rfl⟩, q877, q83, by decide +kernel, by decide +kernel⟩
theorem pf_J10_checkFromToIndex : plainFor yJ10_checkFromToIndex = true := by decide +kernel
abbrev w_J10_checkIndex : Cond := Cond.code yJ10_checkIndex cJ10_checkIndex 3 (some .int)
theorem mi_J10_checkIndex : gMi yJ10_checkIndex w_J10_checkIndex 3 3 := ⟨Or.inl ⟨_, _, rfl⟩, q410, q83, by decide +kernel, by decide +kernel⟩
theorem pf_J10_checkIndex : plainFor yJ10_checkIndex = true := by decide +kernel
abbrev w_J11_init : Cond := Cond.code yJ11_init cJ11_init 1 none
theorem mi_J11_init : gMi yJ11_init w_J11_init 1 0 := ⟨Or.inl ⟨_, _, rfl⟩, q445, q84, by decide +kernel, by decide +kernel⟩
theorem pf_J11_init : plainFor yJ11_init = true := by decide +kernel
abbrev w_J11_init_2 : Cond := Cond.code yJ11_init_2 cJ11_init_2 2 none
theorem mi_J11_init_2 : gMi yJ11_init_2 w_J11_init_2 2 1 := ⟨Or.inl ⟨_, _, rfl⟩, q1018, q84, by decide +kernel, by decide +kernel⟩
theorem pf_J11_init_2 : plainFor yJ11_init_2 = true := by decide +kernel
abbrev w_J11_init_3 : Cond := Cond.code yJ11_init_3 cJ11_init_3 5 none
theorem mi_J11_init_3 : gMi yJ11_init_3 w_J11_init_3 5 4 := ⟨Or.inl ⟨_, _, rfl⟩, q1162, q84, by decide +kernel, by decide +kernel⟩
theorem pf_J11_init_3 : plainFor yJ11_init_3 = true := by decide +kernel
abbrev w_J12_init : Cond := Cond.code yJ12_init cJ12_init 1 none
theorem mi_J12_init : gMi yJ12_init w_J12_init 1 0 := ⟨Or.inl ⟨_, _, rfl⟩, q476, q85, by decide +kernel, by decide +kernel⟩
theorem pf_J12_init : plainFor yJ12_init = true := by decide +kernel
abbrev w_J12_init_2 : Cond := Cond.code yJ12_init_2 cJ12_init_2 2 none
theorem mi_J12_init_2 : gMi yJ12_init_2 w_J12_init_2 2 1 := ⟨Or.inl ⟨_, _, rfl⟩, q1015, q85, by decide +kernel, by decide +kernel⟩
theorem pf_J12_init_2 : plainFor yJ12_init_2 = true := by decide +kernel
abbrev w_J12_init_3 : Cond := Cond.code yJ12_init_3 cJ12_init_3 5 none
theorem mi_J12_init_3 : gMi yJ12_init_3 w_J12_init_3 5 4 := ⟨Or.inl ⟨_, _, rfl⟩, q1159, q85, by decide +kernel, by decide +kernel⟩
theorem pf_J12_init_3 : plainFor yJ12_init_3 = true := by decide +kernel
abbrev w_J13_init : Cond := Cond.code yJ13_init cJ13_init 1 none
theorem mi_J13_init : gMi yJ13_init w_J13_init 1 0 := ⟨Or.inl ⟨_, _, rfl⟩, q473, q86, by decide +kernel, by decide +kernel⟩
theorem pf_J13_init : plainFor yJ13_init = true := by decide +kernel
abbrev w_J13_init_2 : Cond := Cond.code yJ13_init_2 cJ13_init_2 2 none
theorem mi_J13_init_2 : gMi yJ13_init_2 w_J13_init_2 2 1 := ⟨Or.inl ⟨_, _, rfl⟩, q1012, q86, by decide +kernel, by decide +kernel⟩
theorem pf_J13_init_2 : plainFor yJ13_init_2 = true := by decide +kernel
abbrev w_J14_init : Cond := Cond.code yJ14_init cJ14_init 1 none
theorem mi_J14_init : gMi yJ14_init w_J14_init 1 0 := ⟨Or.inl ⟨_, _, rfl⟩, q470, q87, by decide +kernel, by decide +kernel⟩
theorem pf_J14_init : plainFor yJ14_init = true := by decide +kernel
abbrev w_J15_hashCode : Cond := Cond.code yJ15_hashCode cJ15_hashCode 6 (some .int)
theorem mi_J15_hashCode : gMi yJ15_hashCode w_J15_hashCode 6 4 := ⟨Or.inl ⟨_, _, rfl⟩, q1401, q91, by decide +kernel, by decide +kernel⟩
theorem pf_J15_hashCode : plainFor yJ15_hashCode = true := by decide +kernel
abbrev w_J15_hashCode_2 : Cond := Cond.code yJ15_hashCode_2 cJ15_hashCode_2 6 (some .int)
theorem mi_J15_hashCode_2 : gMi yJ15_hashCode_2 w_J15_hashCode_2 6 4 := ⟨Or.inl ⟨_, _, rfl⟩, q1404, q91, by decide +kernel, by decide +kernel⟩
theorem pf_J15_hashCode_2 : plainFor yJ15_hashCode_2 = true := by decide +kernel
abbrev w_J15_hashCode_3 : Cond := Cond.code yJ15_hashCode_3 cJ15_hashCode_3 6 (some .int)
theorem mi_J15_hashCode_3 : gMi yJ15_hashCode_3 w_J15_hashCode_3 6 4 := ⟨Or.inl ⟨_, _, rfl⟩, q1408, q91, by decide +kernel, by decide +kernel⟩
theorem pf_J15_hashCode_3 : plainFor yJ15_hashCode_3 = true := by decide +kernel
abbrev w_J15_hashCode_4 : Cond := Cond.code yJ15_hashCode_4 cJ15_hashCode_4 6 (some .int)
theorem mi_J15_hashCode_4 : gMi yJ15_hashCode_4 w_J15_hashCode_4 6 4 := ⟨Or.inl ⟨_, _, rfl⟩, q1412, q91, by decide +kernel, by decide +kernel⟩
theorem pf_J15_hashCode_4 : plainFor yJ15_hashCode_4 = true := by decide +kernel
abbrev w_J15_hugeLength : Cond := Cond.code yJ15_hugeLength cJ15_hugeLength 3 (some .int)
theorem mi_J15_hugeLength : gMi yJ15_hugeLength w_J15_hugeLength 3 2 := ⟨Or.inl ⟨_, _, rfl⟩, q669, q91, by decide +kernel, by decide +kernel⟩
theorem pf_J15_hugeLength : plainFor yJ15_hugeLength = true := by decide +kernel
abbrev w_J15_newLength : Cond := Cond.code yJ15_newLength cJ15_newLength 4 (some .int)
theorem mi_J15_newLength : gMi yJ15_newLength w_J15_newLength 4 3 := ⟨Or.inl ⟨_, _, rfl⟩, q662, q91, by decide +kernel, by decide +kernel⟩
theorem pf_J15_newLength : plainFor yJ15_newLength = true := by decide +kernel
abbrev w_J15_signedHashCode : Cond := Cond.code yJ15_signedHashCode cJ15_signedHashCode 6 (some .int)
theorem mi_J15_signedHashCode : gMi yJ15_signedHashCode w_J15_signedHashCode 6 4 := ⟨Or.inl ⟨_, _, rfl⟩, q1381, q91, by decide +kernel, by decide +kernel⟩
theorem pf_J15_signedHashCode : plainFor yJ15_signedHashCode = true := by decide +kernel
abbrev w_J15_utf16hashCode : Cond := Cond.code yJ15_utf16hashCode cJ15_utf16hashCode 6 (some .int)
theorem mi_J15_utf16hashCode : gMi yJ15_utf16hashCode w_J15_utf16hashCode 6 4 := ⟨Or.inl ⟨_, _, rfl⟩, q1384, q91, by decide +kernel, by decide +kernel⟩
theorem pf_J15_utf16hashCode : plainFor yJ15_utf16hashCode = true := by decide +kernel
abbrev w_J15_vectorizedHashCode : Cond := Cond.code yJ15_vectorizedHashCode cJ15_vectorizedHashCode 5 (some .int)
theorem mi_J15_vectorizedHashCode : gMi yJ15_vectorizedHashCode w_J15_vectorizedHashCode 5 5 := ⟨Or.inl ⟨_, _, rfl⟩, q1377, q91, by decide +kernel, by decide +kernel⟩
theorem pf_J15_vectorizedHashCode : plainFor yJ15_vectorizedHashCode = true := by decide +kernel
abbrev w_J16_abs : Cond := Cond.code yJ16_abs cJ16_abs 1 (some .int)
theorem mi_J16_abs : gMi yJ16_abs w_J16_abs 1 1 := ⟨Or.inl ⟨_, _, rfl⟩, q1131, q92, by decide +kernel, by decide +kernel⟩
theorem pf_J16_abs : plainFor yJ16_abs = true := by decide +kernel
abbrev w_J16_max : Cond := Cond.code yJ16_max cJ16_max 2 (some .int)
theorem mi_J16_max : gMi yJ16_max w_J16_max 2 2 := ⟨Or.inl ⟨_, _, rfl⟩, q665, q92, by decide +kernel, by decide +kernel⟩
theorem pf_J16_max : plainFor yJ16_max = true := by decide +kernel
abbrev w_J16_min : Cond := Cond.code yJ16_min cJ16_min 2 (some .int)
theorem mi_J16_min : gMi yJ16_min w_J16_min 2 2 := ⟨Or.inl ⟨_, _, rfl⟩, q715, q92, by decide +kernel, by decide +kernel⟩
theorem pf_J16_min : plainFor yJ16_min = true := by decide +kernel
abbrev w_J17_checkLength : Cond := Cond.code yJ17_checkLength cJ17_checkLength 2 none
theorem mi_J17_checkLength : gMi yJ17_checkLength w_J17_checkLength 2 2 := ⟨Or.inl ⟨_, _, rfl⟩, q991, q93, by decide +kernel, by decide +kernel⟩
theorem pf_J17_checkLength : plainFor yJ17_checkLength = true := by decide +kernel
abbrev w_J17_copyOf : Cond := Cond.code yJ17_copyOf cJ17_copyOf 2 (some (.array (.object "java/lang/Object")))
theorem mi_J17_copyOf : gMi yJ17_copyOf w_J17_copyOf 2 2 := ⟨Or.inl ⟨_, _, rfl⟩, q672, q93, by decide +kernel, by decide +kernel⟩
theorem pf_J17_copyOf : plainFor yJ17_copyOf = true := by decide +kernel
abbrev w_J17_copyOfRange : Cond := Cond.code yJ17_copyOfRange cJ17_copyOfRange 3 (some (.array .byte))
theorem mi_J17_copyOfRange : gMi yJ17_copyOfRange w_J17_copyOfRange 3 3 := ⟨Or.inl ⟨_, _, rfl⟩, q985, q93, by decide +kernel, by decide +kernel⟩
theorem pf_J17_copyOfRange : plainFor yJ17_copyOfRange = true := by decide +kernel
abbrev w_J17_copyOfRangeByte : Cond := Cond.code yJ17_copyOfRangeByte cJ17_copyOfRangeByte 5 (some (.array .byte))
theorem mi_J17_copyOfRangeByte : gMi yJ17_copyOfRangeByte w_J17_copyOfRangeByte 5 3 := ⟨Or.inl ⟨_, _, rfl⟩, q988, q93, by decide +kernel, by decide +kernel⟩
theorem pf_J17_copyOfRangeByte : plainFor yJ17_copyOfRangeByte = true := by decide +kernel
abbrev w_J17_copyOf_2 : Cond := Cond.code yJ17_copyOf_2 cJ17_copyOf_2 4 (some (.array (.object "java/lang/Object")))
theorem mi_J17_copyOf_2 : gMi yJ17_copyOf_2 w_J17_copyOf_2 4 3 := ⟨Or.inl ⟨_, _, rfl⟩, q710, q93, by decide +kernel, by decide +kernel⟩
theorem pf_J17_copyOf_2 : plainFor yJ17_copyOf_2 = true := by decide +kernel
abbrev w_J17_copyOf_3 : Cond := Cond.code yJ17_copyOf_3 cJ17_copyOf_3 3 (some (.array .byte))
theorem mi_J17_copyOf_3 : gMi yJ17_copyOf_3 w_J17_copyOf_3 3 2 := ⟨Or.inl ⟨_, _, rfl⟩, q848, q93, by decide +kernel, by decide +kernel⟩
theorem pf_J17_copyOf_3 : plainFor yJ17_copyOf_3 = true := by decide +kernel
abbrev w_J18_canEncode : Cond := Cond.code yJ18_canEncode cJ18_canEncode 1 (some .boolean)
theorem mi_J18_canEncode : gMi yJ18_canEncode w_J18_canEncode 1 1 := ⟨Or.inl ⟨_, _, rfl⟩, q1292, q96, by decide +kernel, by decide +kernel⟩
theorem pf_J18_canEncode : plainFor yJ18_canEncode = true := by decide +kernel
abbrev w_J18_charAt : Cond := Cond.code yJ18_charAt cJ18_charAt 2 (some .char)
theorem mi_J18_charAt : gMi yJ18_charAt w_J18_charAt 2 2 := ⟨Or.inl ⟨_, _, rfl⟩, q1988, q96, by decide +kernel, by decide +kernel⟩
theorem pf_J18_charAt : plainFor yJ18_charAt = true := by decide +kernel
abbrev w_J18_equals : Cond := Cond.code yJ18_equals cJ18_equals 3 (some .boolean)
theorem mi_J18_equals : gMi yJ18_equals w_J18_equals 3 2 := ⟨Or.inl ⟨_, _, rfl⟩, q1433, q96, by decide +kernel, by decide +kernel⟩
theorem pf_J18_equals : plainFor yJ18_equals = true := by decide +kernel
abbrev w_J18_hashCode : Cond := Cond.code yJ18_hashCode cJ18_hashCode 1 (some .int)
theorem mi_J18_hashCode : gMi yJ18_hashCode w_J18_hashCode 1 1 := ⟨Or.inl ⟨_, _, rfl⟩, q1374, q96, by decide +kernel, by decide +kernel⟩
theorem pf_J18_hashCode : plainFor yJ18_hashCode = true := by decide +kernel
abbrev w_J18_inflate : Cond := Cond.code yJ18_inflate cJ18_inflate 5 none
theorem mi_J18_inflate : gMi yJ18_inflate w_J18_inflate 5 5 := ⟨Or.inl ⟨_, _, rfl⟩, q911, q96, by decide +kernel, by decide +kernel⟩
theorem pf_J18_inflate : plainFor yJ18_inflate = true := by decide +kernel
abbrev w_J19_init : Cond := Cond.code yJ19_init cJ19_init 2 none
theorem mi_J19_init : gMi yJ19_init w_J19_init 2 1 := ⟨Or.inl ⟨_, _, rfl⟩, q1009, q97, by decide +kernel, by decide +kernel⟩
theorem pf_J19_init : plainFor yJ19_init = true := by decide +kernel
abbrev w_J19_init_2 : Cond := Cond.code yJ19_init_2 cJ19_init_2 1 none
theorem mi_J19_init_2 : gMi yJ19_init_2 w_J19_init_2 1 0 := ⟨Or.inl ⟨_, _, rfl⟩, q1502, q97, by decide +kernel, by decide +kernel⟩
theorem pf_J19_init_2 : plainFor yJ19_init_2 = true := by decide +kernel
abbrev w_J2_add : Cond := Cond.code yJ2_add cJ2_add 2 (some .boolean)
theorem mi_J2_add : gMi yJ2_add w_J2_add 2 1 := ⟨Or.inl ⟨_, _, rfl⟩, q647, q74, by decide +kernel, by decide +kernel⟩
theorem pf_J2_add : plainFor yJ2_add = true := by decide +kernel
abbrev w_J2_add_2 : Cond := Cond.code yJ2_add_2 cJ2_add_2 4 none
theorem mi_J2_add_2 : gMi yJ2_add_2 w_J2_add_2 4 3 := ⟨Or.inl ⟨_, _, rfl⟩, q651, q74, by decide +kernel, by decide +kernel⟩
theorem pf_J2_add_2 : plainFor yJ2_add_2 = true := by decide +kernel
abbrev w_J2_add_3 : Cond := Cond.code yJ2_add_3 cJ2_add_3 5 none
theorem mi_J2_add_3 : gMi yJ2_add_3 w_J2_add_3 5 2 := ⟨Or.inl ⟨_, _, rfl⟩, q804, q74, by decide +kernel, by decide +kernel⟩
theorem pf_J2_add_3 : plainFor yJ2_add_3 = true := by decide +kernel
abbrev w_J2_elementData : Cond := Cond.code yJ2_elementData cJ2_elementData 2 (some (.object "java/lang/Object"))
theorem mi_J2_elementData : gMi yJ2_elementData w_J2_elementData 2 1 := ⟨Or.inl ⟨_, _, rfl⟩, q414, q74, by decide +kernel, by decide +kernel⟩
theorem pf_J2_elementData : plainFor yJ2_elementData = true := by decide +kernel
abbrev w_J2_get : Cond := Cond.code yJ2_get cJ2_get 2 (some (.object "java/lang/Object"))
theorem mi_J2_get : gMi yJ2_get w_J2_get 2 1 := ⟨Or.inl ⟨_, _, rfl⟩, q404, q74, by decide +kernel, by decide +kernel⟩
theorem pf_J2_get : plainFor yJ2_get = true := by decide +kernel
abbrev w_J2_grow : Cond := Cond.code yJ2_grow cJ2_grow 1 (some (.array (.object "java/lang/Object")))
theorem mi_J2_grow : gMi yJ2_grow w_J2_grow 1 0 := ⟨Or.inl ⟨_, _, rfl⟩, q655, q74, by decide +kernel, by decide +kernel⟩
theorem pf_J2_grow : plainFor yJ2_grow = true := by decide +kernel
abbrev w_J2_grow_2 : Cond := Cond.code yJ2_grow_2 cJ2_grow_2 4 (some (.array (.object "java/lang/Object")))
theorem mi_J2_grow_2 : gMi yJ2_grow_2 w_J2_grow_2 4 1 := ⟨Or.inl ⟨_, _, rfl⟩, q659, q74, by decide +kernel, by decide +kernel⟩
theorem pf_J2_grow_2 : plainFor yJ2_grow_2 = true := by decide +kernel
abbrev w_J2_init : Cond := Cond.code yJ2_init cJ2_init 1 none
theorem mi_J2_init : gMi yJ2_init w_J2_init 1 0 := ⟨Or.inl ⟨_, _, rfl⟩, q142, q74, by decide +kernel, by decide +kernel⟩
theorem pf_J2_init : plainFor yJ2_init = true := by decide +kernel
abbrev w_J2_isEmpty : Cond := Cond.code yJ2_isEmpty cJ2_isEmpty 1 (some .boolean)
theorem mi_J2_isEmpty : gMi yJ2_isEmpty w_J2_isEmpty 1 0 := ⟨Or.inl ⟨_, _, rfl⟩, q1821, q74, by decide +kernel, by decide +kernel⟩
theorem pf_J2_isEmpty : plainFor yJ2_isEmpty = true := by decide +kernel
abbrev w_J2_iterator : Cond := Cond.code yJ2_iterator cJ2_iterator 1 (some (.object "java/util/Iterator"))
theorem mi_J2_iterator : gMi yJ2_iterator w_J2_iterator 1 0 := ⟨Or.inl ⟨_, _, rfl⟩, q345, q74, by decide +kernel, by decide +kernel⟩
theorem pf_J2_iterator : plainFor yJ2_iterator = true := by decide +kernel
abbrev w_J2_outOfBoundsMsg : Cond := Cond.code yJ2_outOfBoundsMsg cJ2_outOfBoundsMsg 2 (some (.object "java/lang/String"))
theorem mi_J2_outOfBoundsMsg : gMi yJ2_outOfBoundsMsg w_J2_outOfBoundsMsg 2 1 := ⟨Or.inl ⟨_, _, rfl⟩, q821, q74, by decide +kernel, by decide +kernel⟩
theorem pf_J2_outOfBoundsMsg : plainFor yJ2_outOfBoundsMsg = true := by decide +kernel
abbrev w_J2_rangeCheckForAdd : Cond := Cond.code yJ2_rangeCheckForAdd cJ2_rangeCheckForAdd 2 none
theorem mi_J2_rangeCheckForAdd : gMi yJ2_rangeCheckForAdd w_J2_rangeCheckForAdd 2 1 := ⟨Or.inl ⟨_, _, rfl⟩, q808, q74, by decide +kernel, by decide +kernel⟩
theorem pf_J2_rangeCheckForAdd : plainFor yJ2_rangeCheckForAdd = true := by decide +kernel
abbrev w_J2_size : Cond := Cond.code yJ2_size cJ2_size 1 (some .int)
theorem mi_J2_size : gMi yJ2_size w_J2_size 1 0 := ⟨Or.inl ⟨_, _, rfl⟩, q313, q74, by decide +kernel, by decide +kernel⟩
theorem pf_J2_size : plainFor yJ2_size = true := by decide +kernel
abbrev w_J20_getChars : Cond := Cond.code yJ20_getChars cJ20_getChars 7 (some .int)
theorem mi_J20_getChars : gMi yJ20_getChars w_J20_getChars 7 3 := ⟨Or.inl ⟨_, _, rfl⟩, q942, q99, by decide +kernel, by decide +kernel⟩
theorem pf_J20_getChars : plainFor yJ20_getChars = true := by decide +kernel
abbrev w_J20_stringSize : Cond := Cond.code yJ20_stringSize cJ20_stringSize 4 (some .int)
theorem mi_J20_stringSize : gMi yJ20_stringSize w_J20_stringSize 4 1 := ⟨Or.inl ⟨_, _, rfl⟩, q939, q99, by decide +kernel, by decide +kernel⟩
theorem pf_J20_stringSize : plainFor yJ20_stringSize = true := by decide +kernel
abbrev w_J21_init : Cond := Cond.code yJ21_init cJ21_init 2 none
theorem mi_J21_init : gMi yJ21_init w_J21_init 2 1 := ⟨Or.inl ⟨_, _, rfl⟩, q1049, q101, by decide +kernel, by decide +kernel⟩
theorem pf_J21_init : plainFor yJ21_init = true := by decide +kernel
abbrev w_J21_init_2 : Cond := Cond.code yJ21_init_2 cJ21_init_2 1 none
theorem mi_J21_init_2 : gMi yJ21_init_2 w_J21_init_2 1 0 := ⟨Or.inl ⟨_, _, rfl⟩, q1468, q101, by decide +kernel, by decide +kernel⟩
theorem pf_J21_init_2 : plainFor yJ21_init_2 = true := by decide +kernel
abbrev w_J23_init : Cond := Cond.code yJ23_init cJ23_init 1 none
theorem mi_J23_init : gMi yJ23_init w_J23_init 1 0 := ⟨Or.inl ⟨_, _, rfl⟩, q1556, q109, by decide +kernel, by decide +kernel⟩
theorem pf_J23_init : plainFor yJ23_init = true := by decide +kernel
abbrev w_J23_init_2 : Cond := Cond.code yJ23_init_2 cJ23_init_2 2 none
theorem mi_J23_init_2 : gMi yJ23_init_2 w_J23_init_2 2 1 := ⟨Or.inl ⟨_, _, rfl⟩, q1642, q109, by decide +kernel, by decide +kernel⟩
theorem pf_J23_init_2 : plainFor yJ23_init_2 = true := by decide +kernel
abbrev w_J24_init : Cond := Cond.code yJ24_init cJ24_init 1 none
theorem mi_J24_init : gMi yJ24_init w_J24_init 1 0 := ⟨Or.inl ⟨_, _, rfl⟩, q1602, q110, by decide +kernel, by decide +kernel⟩
theorem pf_J24_init : plainFor yJ24_init = true := by decide +kernel
abbrev w_J26_init : Cond := Cond.code yJ26_init cJ26_init 2 none
theorem mi_J26_init : gMi yJ26_init w_J26_init 2 1 := ⟨Or.inl ⟨_, _, rfl⟩, q2022, q115, by decide +kernel, by decide +kernel⟩
theorem pf_J26_init : plainFor yJ26_init = true := by decide +kernel
abbrev w_J26_init_2 : Cond := Cond.code yJ26_init_2 cJ26_init_2 1 none
theorem mi_J26_init_2 : gMi yJ26_init_2 w_J26_init_2 1 0 := ⟨Or.inl ⟨_, _, rfl⟩, q2043, q115, by decide +kernel, by decide +kernel⟩
theorem pf_J26_init_2 : plainFor yJ26_init_2 = true := by decide +kernel
abbrev w_J27_init : Cond := Cond.code yJ27_init cJ27_init 1 none
theorem mi_J27_init : gMi yJ27_init w_J27_init 1 0 := ⟨Or.inl ⟨_, _, rfl⟩, q125, q2703, by decide +kernel, by decide +kernel⟩
abbrev w_J3_addLast : Cond := Cond.code yJ3_addLast cJ3_addLast 3 none
theorem mi_J3_addLast : gMi yJ3_addLast w_J3_addLast 3 1 := ⟨Or.inl ⟨_, _, rfl⟩, q1628, q75, by decide +kernel, by decide +kernel⟩
theorem pf_J3_addLast : plainFor yJ3_addLast = true := by decide +kernel
abbrev w_J3_circularClear : Cond := Cond.code yJ3_circularClear cJ3_circularClear 4 none
theorem mi_J3_circularClear : gMi yJ3_circularClear w_J3_circularClear 4 3 := ⟨Or.inl ⟨_, _, rfl⟩, q320, q75, by decide +kernel, by decide +kernel⟩
theorem pf_J3_circularClear : plainFor yJ3_circularClear = true := by decide +kernel
abbrev w_J3_clear : Cond := Cond.code yJ3_clear cJ3_clear 1 none
theorem mi_J3_clear : gMi yJ3_clear w_J3_clear 1 0 := ⟨Or.inl ⟨_, _, rfl⟩, q317, q75, by decide +kernel, by decide +kernel⟩
theorem pf_J3_clear : plainFor yJ3_clear = true := by decide +kernel
abbrev w_J3_dec : Cond := Cond.code yJ3_dec cJ3_dec 2 (some .int)
theorem mi_J3_dec : gMi yJ3_dec w_J3_dec 2 2 := ⟨Or.inl ⟨_, _, rfl⟩, q2231, q75, by decide +kernel, by decide +kernel⟩
theorem pf_J3_dec : plainFor yJ3_dec = true := by decide +kernel
abbrev w_J3_elementAt : Cond := Cond.code yJ3_elementAt cJ3_elementAt 2 (some (.object "java/lang/Object"))
theorem mi_J3_elementAt : gMi yJ3_elementAt w_J3_elementAt 2 2 := ⟨Or.inl ⟨_, _, rfl⟩, q1621, q75, by decide +kernel, by decide +kernel⟩
theorem pf_J3_elementAt : plainFor yJ3_elementAt = true := by decide +kernel
abbrev w_J3_grow : Cond := Cond.code yJ3_grow cJ3_grow 9 none
theorem mi_J3_grow : gMi yJ3_grow w_J3_grow 9 1 := ⟨Or.inl ⟨_, _, rfl⟩, q1632, q75, by decide +kernel, by decide +kernel⟩
theorem pf_J3_grow : plainFor yJ3_grow = true := by decide +kernel
abbrev w_J3_inc : Cond := Cond.code yJ3_inc cJ3_inc 2 (some .int)
theorem mi_J3_inc : gMi yJ3_inc w_J3_inc 2 2 := ⟨Or.inl ⟨_, _, rfl⟩, q496, q75, by decide +kernel, by decide +kernel⟩
theorem pf_J3_inc : plainFor yJ3_inc = true := by decide +kernel
abbrev w_J3_init : Cond := Cond.code yJ3_init cJ3_init 1 none
theorem mi_J3_init : gMi yJ3_init w_J3_init 1 0 := ⟨Or.inl ⟨_, _, rfl⟩, q228, q75, by decide +kernel, by decide +kernel⟩
theorem pf_J3_init : plainFor yJ3_init = true := by decide +kernel
abbrev w_J3_isEmpty : Cond := Cond.code yJ3_isEmpty cJ3_isEmpty 1 (some .boolean)
theorem mi_J3_isEmpty : gMi yJ3_isEmpty w_J3_isEmpty 1 0 := ⟨Or.inl ⟨_, _, rfl⟩, q2220, q75, by decide +kernel, by decide +kernel⟩
theorem pf_J3_isEmpty : plainFor yJ3_isEmpty = true := by decide +kernel
abbrev w_J3_iterator : Cond := Cond.code yJ3_iterator cJ3_iterator 1 (some (.object "java/util/Iterator"))
theorem mi_J3_iterator : gMi yJ3_iterator w_J3_iterator 1 0 := ⟨Or.inl ⟨_, _, rfl⟩, q1070, q75, by decide +kernel, by decide +kernel⟩
theorem pf_J3_iterator : plainFor yJ3_iterator = true := by decide +kernel
abbrev w_J3_newCapacity : Cond := Cond.code yJ3_newCapacity cJ3_newCapacity 5 (some .int)
theorem mi_J3_newCapacity : gMi yJ3_newCapacity w_J3_newCapacity 5 2 := ⟨Or.inl ⟨_, _, rfl⟩, q1637, q75, by decide +kernel, by decide +kernel⟩
theorem pf_J3_newCapacity : plainFor yJ3_newCapacity = true := by decide +kernel
abbrev w_J3_nonNullElementAt : Cond := Cond.code yJ3_nonNullElementAt cJ3_nonNullElementAt 3 (some (.object "java/lang/Object"))
theorem mi_J3_nonNullElementAt : gMi yJ3_nonNullElementAt w_J3_nonNullElementAt 3 2 := ⟨Or.inl ⟨_, _, rfl⟩, q493, q75, by decide +kernel, by decide +kernel⟩
theorem pf_J3_nonNullElementAt : plainFor yJ3_nonNullElementAt = true := by decide +kernel
abbrev w_J3_pollFirst : Cond := Cond.code yJ3_pollFirst cJ3_pollFirst 4 (some (.object "java/lang/Object"))
theorem mi_J3_pollFirst : gMi yJ3_pollFirst w_J3_pollFirst 4 0 := ⟨Or.inl ⟨_, _, rfl⟩, q1618, q75, by decide +kernel, by decide +kernel⟩
theorem pf_J3_pollFirst : plainFor yJ3_pollFirst = true := by decide +kernel
abbrev w_J3_pollLast : Cond := Cond.code yJ3_pollLast cJ3_pollLast 4 (some (.object "java/lang/Object"))
theorem mi_J3_pollLast : gMi yJ3_pollLast w_J3_pollLast 4 0 := ⟨Or.inl ⟨_, _, rfl⟩, q2228, q75, by decide +kernel, by decide +kernel⟩
theorem pf_J3_pollLast : plainFor yJ3_pollLast = true := by decide +kernel
abbrev w_J3_removeFirst : Cond := Cond.code yJ3_removeFirst cJ3_removeFirst 2 (some (.object "java/lang/Object"))
theorem mi_J3_removeFirst : gMi yJ3_removeFirst w_J3_removeFirst 2 0 := ⟨Or.inl ⟨_, _, rfl⟩, q1614, q75, by decide +kernel, by decide +kernel⟩
theorem pf_J3_removeFirst : plainFor yJ3_removeFirst = true := by decide +kernel
abbrev w_J3_removeLast : Cond := Cond.code yJ3_removeLast cJ3_removeLast 2 (some (.object "java/lang/Object"))
theorem mi_J3_removeLast : gMi yJ3_removeLast w_J3_removeLast 2 0 := ⟨Or.inl ⟨_, _, rfl⟩, q2224, q75, by decide +kernel, by decide +kernel⟩
theorem pf_J3_removeLast : plainFor yJ3_removeLast = true := by decide +kernel
abbrev w_J3_size : Cond := Cond.code yJ3_size cJ3_size 1 (some .int)
theorem mi_J3_size : gMi yJ3_size w_J3_size 1 0 := ⟨Or.inl ⟨_, _, rfl⟩, q1080, q75, by decide +kernel, by decide +kernel⟩
theorem pf_J3_size : plainFor yJ3_size = true := by decide +kernel
abbrev w_J3_sub : Cond := Cond.code yJ3_sub cJ3_sub 3 (some .int)
theorem mi_J3_sub : gMi yJ3_sub w_J3_sub 3 3 := ⟨Or.inl ⟨_, _, rfl⟩, q1083, q75, by decide +kernel, by decide +kernel⟩
theorem pf_J3_sub : plainFor yJ3_sub = true := by decide +kernel
abbrev w_J4_append : Cond := Cond.code yJ4_append cJ4_append 3 (some (.object "java/lang/AbstractStringBuilder"))
theorem mi_J4_append : gMi yJ4_append w_J4_append 3 1 := ⟨Or.inl ⟨_, _, rfl⟩, q831, q76, by decide +kernel, by decide +kernel⟩
theorem pf_J4_append : plainFor yJ4_append = true := by decide +kernel
abbrev w_J4_appendNull : Cond := Cond.code yJ4_appendNull cJ4_appendNull 3 (some (.object "java/lang/AbstractStringBuilder"))
theorem mi_J4_appendNull : gMi yJ4_appendNull w_J4_appendNull 3 0 := ⟨Or.inl ⟨_, _, rfl⟩, q835, q76, by decide +kernel, by decide +kernel⟩
theorem pf_J4_appendNull : plainFor yJ4_appendNull = true := by decide +kernel
abbrev w_J4_append_2 : Cond := Cond.code yJ4_append_2 cJ4_append_2 4 (some (.object "java/lang/AbstractStringBuilder"))
theorem mi_J4_append_2 : gMi yJ4_append_2 w_J4_append_2 4 1 := ⟨Or.inl ⟨_, _, rfl⟩, q936, q76, by decide +kernel, by decide +kernel⟩
theorem pf_J4_append_2 : plainFor yJ4_append_2 = true := by decide +kernel
abbrev w_J4_append_3 : Cond := Cond.code yJ4_append_3 cJ4_append_3 2 (some (.object "java/lang/AbstractStringBuilder"))
theorem mi_J4_append_3 : gMi yJ4_append_3 w_J4_append_3 2 1 := ⟨Or.inl ⟨_, _, rfl⟩, q1289, q76, by decide +kernel, by decide +kernel⟩
theorem pf_J4_append_3 : plainFor yJ4_append_3 = true := by decide +kernel
abbrev w_J4_charAt : Cond := Cond.code yJ4_charAt cJ4_charAt 5 (some .char)
theorem mi_J4_charAt : gMi yJ4_charAt w_J4_charAt 5 1 := ⟨Or.inl ⟨_, _, rfl⟩, q2144, q76, by decide +kernel, by decide +kernel⟩
theorem pf_J4_charAt : plainFor yJ4_charAt = true := by decide +kernel
abbrev w_J4_ensureCapacityInternal : Cond := Cond.code yJ4_ensureCapacityInternal cJ4_ensureCapacityInternal 3 none
theorem mi_J4_ensureCapacityInternal : gMi yJ4_ensureCapacityInternal w_J4_ensureCapacityInternal 3 1 := ⟨Or.inl ⟨_, _, rfl⟩, q839, q76, by decide +kernel, by decide +kernel⟩
theorem pf_J4_ensureCapacityInternal : plainFor yJ4_ensureCapacityInternal = true := by decide +kernel
abbrev w_J4_getValue : Cond := Cond.code yJ4_getValue cJ4_getValue 1 (some (.array .byte))
theorem mi_J4_getValue : gMi yJ4_getValue w_J4_getValue 1 0 := ⟨Or.inl ⟨_, _, rfl⟩, q973, q76, by decide +kernel, by decide +kernel⟩
theorem pf_J4_getValue : plainFor yJ4_getValue = true := by decide +kernel
abbrev w_J4_inflate : Cond := Cond.code yJ4_inflate cJ4_inflate 2 none
theorem mi_J4_inflate : gMi yJ4_inflate w_J4_inflate 2 0 := ⟨Or.inl ⟨_, _, rfl⟩, q908, q76, by decide +kernel, by decide +kernel⟩
theorem pf_J4_inflate : plainFor yJ4_inflate = true := by decide +kernel
abbrev w_J4_inflateIfNeededFor : Cond := Cond.code yJ4_inflateIfNeededFor cJ4_inflateIfNeededFor 2 none
theorem mi_J4_inflateIfNeededFor : gMi yJ4_inflateIfNeededFor w_J4_inflateIfNeededFor 2 1 := ⟨Or.inl ⟨_, _, rfl⟩, q903, q76, by decide +kernel, by decide +kernel⟩
theorem pf_J4_inflateIfNeededFor : plainFor yJ4_inflateIfNeededFor = true := by decide +kernel
abbrev w_J4_init : Cond := Cond.code yJ4_init cJ4_init 2 none
theorem mi_J4_init : gMi yJ4_init w_J4_init 2 1 := ⟨Or.inl ⟨_, _, rfl⟩, q251, q76, by decide +kernel, by decide +kernel⟩
theorem pf_J4_init : plainFor yJ4_init = true := by decide +kernel
abbrev w_J4_isLatin1 : Cond := Cond.code yJ4_isLatin1 cJ4_isLatin1 1 (some .boolean)
theorem mi_J4_isLatin1 : gMi yJ4_isLatin1 w_J4_isLatin1 1 0 := ⟨Or.inl ⟨_, _, rfl⟩, q860, q76, by decide +kernel, by decide +kernel⟩
theorem pf_J4_isLatin1 : plainFor yJ4_isLatin1 = true := by decide +kernel
abbrev w_J4_length : Cond := Cond.code yJ4_length cJ4_length 1 (some .int)
theorem mi_J4_length : gMi yJ4_length w_J4_length 1 0 := ⟨Or.inl ⟨_, _, rfl⟩, q981, q76, by decide +kernel, by decide +kernel⟩
theorem pf_J4_length : plainFor yJ4_length = true := by decide +kernel
abbrev w_J4_newCapacity : Cond := Cond.code yJ4_newCapacity cJ4_newCapacity 6 (some .int)
theorem mi_J4_newCapacity : gMi yJ4_newCapacity w_J4_newCapacity 6 1 := ⟨Or.inl ⟨_, _, rfl⟩, q843, q76, by decide +kernel, by decide +kernel⟩
theorem pf_J4_newCapacity : plainFor yJ4_newCapacity = true := by decide +kernel
abbrev w_J4_putStringAt : Cond := Cond.code yJ4_putStringAt cJ4_putStringAt 3 none
theorem mi_J4_putStringAt : gMi yJ4_putStringAt w_J4_putStringAt 3 2 := ⟨Or.inl ⟨_, _, rfl⟩, q899, q76, by decide +kernel, by decide +kernel⟩
theorem pf_J4_putStringAt : plainFor yJ4_putStringAt = true := by decide +kernel
abbrev w_J5_append : Cond := Cond.code yJ5_append cJ5_append 2 (some (.object "java/lang/StringBuilder"))
theorem mi_J5_append : gMi yJ5_append w_J5_append 2 1 := ⟨Or.inl ⟨_, _, rfl⟩, q828, q77, by decide +kernel, by decide +kernel⟩
theorem pf_J5_append : plainFor yJ5_append = true := by decide +kernel
abbrev w_J5_append_2 : Cond := Cond.code yJ5_append_2 cJ5_append_2 2 (some (.object "java/lang/StringBuilder"))
theorem mi_J5_append_2 : gMi yJ5_append_2 w_J5_append_2 2 1 := ⟨Or.inl ⟨_, _, rfl⟩, q933, q77, by decide +kernel, by decide +kernel⟩
theorem pf_J5_append_2 : plainFor yJ5_append_2 = true := by decide +kernel
abbrev w_J5_append_3 : Cond := Cond.code yJ5_append_3 cJ5_append_3 2 (some (.object "java/lang/StringBuilder"))
theorem mi_J5_append_3 : gMi yJ5_append_3 w_J5_append_3 2 1 := ⟨Or.inl ⟨_, _, rfl⟩, q1286, q77, by decide +kernel, by decide +kernel⟩
theorem pf_J5_append_3 : plainFor yJ5_append_3 = true := by decide +kernel
abbrev w_J5_charAt : Cond := Cond.code yJ5_charAt cJ5_charAt 2 (some .char)
theorem mi_J5_charAt : gMi yJ5_charAt w_J5_charAt 2 1 := ⟨Or.inl ⟨_, _, rfl⟩, q2141, q77, by decide +kernel, by decide +kernel⟩
theorem pf_J5_charAt : plainFor yJ5_charAt = true := by decide +kernel
abbrev w_J5_init : Cond := Cond.code yJ5_init cJ5_init 1 none
theorem mi_J5_init : gMi yJ5_init w_J5_init 1 0 := ⟨Or.inl ⟨_, _, rfl⟩, q248, q77, by decide +kernel, by decide +kernel⟩
theorem pf_J5_init : plainFor yJ5_init = true := by decide +kernel
abbrev w_J5_length : Cond := Cond.code yJ5_length cJ5_length 1 (some .int)
theorem mi_J5_length : gMi yJ5_length w_J5_length 1 0 := ⟨Or.inl ⟨_, _, rfl⟩, q979, q77, by decide +kernel, by decide +kernel⟩
theorem pf_J5_length : plainFor yJ5_length = true := by decide +kernel
abbrev w_J5_toString : Cond := Cond.code yJ5_toString cJ5_toString 1 (some (.object "java/lang/String"))
theorem mi_J5_toString : gMi yJ5_toString w_J5_toString 1 0 := ⟨Or.inl ⟨_, _, rfl⟩, q959, q77, by decide +kernel, by decide +kernel⟩
theorem pf_J5_toString : plainFor yJ5_toString = true := by decide +kernel
abbrev w_J6_charAt : Cond := Cond.code yJ6_charAt cJ6_charAt 2 (some .char)
theorem mi_J6_charAt : gMi yJ6_charAt w_J6_charAt 2 1 := ⟨Or.inl ⟨_, _, rfl⟩, q1985, q78, by decide +kernel, by decide +kernel⟩
theorem pf_J6_charAt : plainFor yJ6_charAt = true := by decide +kernel
abbrev w_J6_checkBoundsBeginEnd : Cond := Cond.code yJ6_checkBoundsBeginEnd cJ6_checkBoundsBeginEnd 3 none
theorem mi_J6_checkBoundsBeginEnd : gMi yJ6_checkBoundsBeginEnd w_J6_checkBoundsBeginEnd 3 3 := ⟨Or.inl ⟨_, _, rfl⟩, q872, q78, by decide +kernel, by decide +kernel⟩
theorem pf_J6_checkBoundsBeginEnd : plainFor yJ6_checkBoundsBeginEnd = true := by decide +kernel
abbrev w_J6_checkBoundsOffCount : Cond := Cond.code yJ6_checkBoundsOffCount cJ6_checkBoundsOffCount 3 (some .int)
theorem mi_J6_checkBoundsOffCount : gMi yJ6_checkBoundsOffCount w_J6_checkBoundsOffCount 3 3 := ⟨Or.inl ⟨_, _, rfl⟩, q920, q78, by decide +kernel, by decide +kernel⟩
theorem pf_J6_checkBoundsOffCount : plainFor yJ6_checkBoundsOffCount = true := by decide +kernel
abbrev w_J6_checkIndex : Cond := Cond.code yJ6_checkIndex cJ6_checkIndex 2 none
theorem mi_J6_checkIndex : gMi yJ6_checkIndex w_J6_checkIndex 2 2 := ⟨Or.inl ⟨_, _, rfl⟩, q1301, q78, by decide +kernel, by decide +kernel⟩
theorem pf_J6_checkIndex : plainFor yJ6_checkIndex = true := by decide +kernel
abbrev w_J6_coder : Cond := Cond.code yJ6_coder cJ6_coder 1 (some .byte)
theorem mi_J6_coder : gMi yJ6_coder w_J6_coder 1 0 := ⟨Or.inl ⟨_, _, rfl⟩, q894, q78, by decide +kernel, by decide +kernel⟩
theorem pf_J6_coder : plainFor yJ6_coder = true := by decide +kernel
abbrev w_J6_equals : Cond := Cond.code yJ6_equals cJ6_equals 3 (some .boolean)
theorem mi_J6_equals : gMi yJ6_equals w_J6_equals 3 1 := ⟨Or.inl ⟨_, _, rfl⟩, q1429, q78, by decide +kernel, by decide +kernel⟩
theorem pf_J6_equals : plainFor yJ6_equals = true := by decide +kernel
abbrev w_J6_getBytes : Cond := Cond.code yJ6_getBytes cJ6_getBytes 4 none
theorem mi_J6_getBytes : gMi yJ6_getBytes w_J6_getBytes 4 3 := ⟨Or.inl ⟨_, _, rfl⟩, q927, q78, by decide +kernel, by decide +kernel⟩
theorem pf_J6_getBytes : plainFor yJ6_getBytes = true := by decide +kernel
abbrev w_J6_hashCode : Cond := Cond.code yJ6_hashCode cJ6_hashCode 2 (some .int)
theorem mi_J6_hashCode : gMi yJ6_hashCode w_J6_hashCode 2 0 := ⟨Or.inl ⟨_, _, rfl⟩, q1367, q78, by decide +kernel, by decide +kernel⟩
theorem pf_J6_hashCode : plainFor yJ6_hashCode = true := by decide +kernel
abbrev w_J6_init : Cond := Cond.code yJ6_init cJ6_init 2 none
theorem mi_J6_init : gMi yJ6_init w_J6_init 2 1 := ⟨Or.inl ⟨_, _, rfl⟩, q964, q78, by decide +kernel, by decide +kernel⟩
theorem pf_J6_init : plainFor yJ6_init = true := by decide +kernel
abbrev w_J6_init_2 : Cond := Cond.code yJ6_init_2 cJ6_init_2 5 none
theorem mi_J6_init_2 : gMi yJ6_init_2 w_J6_init_2 5 2 := ⟨Or.inl ⟨_, _, rfl⟩, q967, q78, by decide +kernel, by decide +kernel⟩
theorem pf_J6_init_2 : plainFor yJ6_init_2 = true := by decide +kernel
abbrev w_J6_isLatin1 : Cond := Cond.code yJ6_isLatin1 cJ6_isLatin1 1 (some .boolean)
theorem mi_J6_isLatin1 : gMi yJ6_isLatin1 w_J6_isLatin1 1 0 := ⟨Or.inl ⟨_, _, rfl⟩, q1371, q78, by decide +kernel, by decide +kernel⟩
theorem pf_J6_isLatin1 : plainFor yJ6_isLatin1 = true := by decide +kernel
abbrev w_J6_length : Cond := Cond.code yJ6_length cJ6_length 1 (some .int)
theorem mi_J6_length : gMi yJ6_length w_J6_length 1 0 := ⟨Or.inl ⟨_, _, rfl⟩, q890, q78, by decide +kernel, by decide +kernel⟩
theorem pf_J6_length : plainFor yJ6_length = true := by decide +kernel
abbrev w_J8_checkForComodification : Cond := Cond.code yJ8_checkForComodification cJ8_checkForComodification 1 none
theorem mi_J8_checkForComodification : gMi yJ8_checkForComodification w_J8_checkForComodification 1 0 := ⟨Or.inl ⟨_, _, rfl⟩, q505, q81, by decide +kernel, by decide +kernel⟩
theorem pf_J8_checkForComodification : plainFor yJ8_checkForComodification = true := by decide +kernel
abbrev w_J8_hasNext : Cond := Cond.code yJ8_hasNext cJ8_hasNext 1 (some .boolean)
theorem mi_J8_hasNext : gMi yJ8_hasNext w_J8_hasNext 1 0 := ⟨Or.inl ⟨_, _, rfl⟩, q387, q81, by decide +kernel, by decide +kernel⟩
theorem pf_J8_hasNext : plainFor yJ8_hasNext = true := by decide +kernel
abbrev w_J8_init : Cond := Cond.code yJ8_init cJ8_init 2 none
theorem mi_J8_init : gMi yJ8_init w_J8_init 2 1 := ⟨Or.inl ⟨_, _, rfl⟩, q350, q81, by decide +kernel, by decide +kernel⟩
theorem pf_J8_init : plainFor yJ8_init = true := by decide +kernel
abbrev w_J8_next : Cond := Cond.code yJ8_next cJ8_next 3 (some (.object "java/lang/Object"))
theorem mi_J8_next : gMi yJ8_next w_J8_next 3 0 := ⟨Or.inl ⟨_, _, rfl⟩, q501, q81, by decide +kernel, by decide +kernel⟩
theorem pf_J8_next : plainFor yJ8_next = true := by decide +kernel
abbrev w_J9_checkIndex : Cond := Cond.code yJ9_checkIndex cJ9_checkIndex 2 (some .int)
theorem mi_J9_checkIndex : gMi yJ9_checkIndex w_J9_checkIndex 2 2 := ⟨Or.inl ⟨_, _, rfl⟩, q407, q82, by decide +kernel, by decide +kernel⟩
theorem pf_J9_checkIndex : plainFor yJ9_checkIndex = true := by decide +kernel
abbrev w_X1_account : Cond := Cond.code yX1_account cX1_account 5 (some .int)
theorem mi_X1_account : gMi yX1_account w_X1_account 5 1 := ⟨Or.inl ⟨_, _, rfl⟩, q2007, q69, by decide +kernel, by decide +kernel⟩
theorem pf_X1_account : plainFor yX1_account = true := by decide +kernel
abbrev w_X1_append : Cond := Cond.code yX1_append cX1_append 5 (some .int)
theorem mi_X1_append : gMi yX1_append w_X1_append 5 1 := ⟨Or.inl ⟨_, _, rfl⟩, q2058, q69, by decide +kernel, by decide +kernel⟩
theorem pf_X1_append : plainFor yX1_append = true := by decide +kernel
abbrev w_X1_balancedShare : Cond := Cond.code yX1_balancedShare cX1_balancedShare 2 (some .float)
theorem mi_X1_balancedShare : gMi yX1_balancedShare w_X1_balancedShare 2 0 := ⟨Or.inl ⟨_, _, rfl⟩, q2051, q69, by decide +kernel, by decide +kernel⟩
theorem pf_X1_balancedShare : plainFor yX1_balancedShare = true := by decide +kernel
abbrev w_X1_bar : Cond := Cond.code yX1_bar cX1_bar 1 (some .int)
theorem mi_X1_bar : gMi yX1_bar w_X1_bar 1 0 := ⟨Or.inl ⟨_, _, rfl⟩, q1654, q69, by decide +kernel, by decide +kernel⟩
theorem pf_X1_bar : plainFor yX1_bar = true := by decide +kernel
abbrev w_X1_barOf : Cond := Cond.code yX1_barOf cX1_barOf 4 (some .int)
theorem mi_X1_barOf : gMi yX1_barOf w_X1_barOf 4 2 := ⟨Or.inl ⟨_, _, rfl⟩, q1678, q69, by decide +kernel, by decide +kernel⟩
theorem pf_X1_barOf : plainFor yX1_barOf = true := by decide +kernel
abbrev w_X1_barOfCurtain : Cond := Cond.code yX1_barOfCurtain cX1_barOfCurtain 2 (some .int)
theorem mi_X1_barOfCurtain : gMi yX1_barOfCurtain w_X1_barOfCurtain 2 1 := ⟨Or.inl ⟨_, _, rfl⟩, q1714, q69, by decide +kernel, by decide +kernel⟩
theorem pf_X1_barOfCurtain : plainFor yX1_barOfCurtain = true := by decide +kernel
abbrev w_X1_become : Cond := Cond.code yX1_become cX1_become 3 none
theorem mi_X1_become : gMi yX1_become w_X1_become 3 1 := ⟨Or.inl ⟨_, _, rfl⟩, q1609, q69, by decide +kernel, by decide +kernel⟩
theorem pf_X1_become : plainFor yX1_become = true := by decide +kernel
abbrev w_X1_bestAgain : Cond := Cond.code yX1_bestAgain cX1_bestAgain 2 (some .int)
theorem mi_X1_bestAgain : gMi yX1_bestAgain w_X1_bestAgain 2 1 := ⟨Or.inl ⟨_, _, rfl⟩, q1812, q69, by decide +kernel, by decide +kernel⟩
theorem pf_X1_bestAgain : plainFor yX1_bestAgain = true := by decide +kernel
abbrev w_X1_bestBar : Cond := Cond.code yX1_bestBar cX1_bestBar 2 (some .int)
theorem mi_X1_bestBar : gMi yX1_bestBar w_X1_bestBar 2 1 := ⟨Or.inl ⟨_, _, rfl⟩, q1779, q69, by decide +kernel, by decide +kernel⟩
theorem pf_X1_bestBar : plainFor yX1_bestBar = true := by decide +kernel
abbrev w_X1_bestWeights : Cond := Cond.code yX1_bestWeights cX1_bestWeights 2 (some .int)
theorem mi_X1_bestWeights : gMi yX1_bestWeights w_X1_bestWeights 2 1 := ⟨Or.inl ⟨_, _, rfl⟩, q1768, q69, by decide +kernel, by decide +kernel⟩
theorem pf_X1_bestWeights : plainFor yX1_bestWeights = true := by decide +kernel
abbrev w_X1_change : Cond := Cond.codeWith yX1_change cX1_change 7 (some .int) [(9, 26, 29, 92)]
theorem mi_X1_change : gMi yX1_change w_X1_change 7 3 := ⟨Or.inr ⟨_, _, _, rfl⟩, q1341, q69, by decide +kernel, by decide +kernel⟩
theorem pf_X1_change : plainFor yX1_change = true := by decide +kernel
abbrev w_X1_character : Cond := Cond.code yX1_character cX1_character 2 (some .char)
theorem mi_X1_character : gMi yX1_character w_X1_character 2 1 := ⟨Or.inl ⟨_, _, rfl⟩, q1980, q69, by decide +kernel, by decide +kernel⟩
theorem pf_X1_character : plainFor yX1_character = true := by decide +kernel
abbrev w_X1_checkArgument : Cond := Cond.code yX1_checkArgument cX1_checkArgument 1 none
theorem mi_X1_checkArgument : gMi yX1_checkArgument w_X1_checkArgument 1 1 := ⟨Or.inl ⟨_, _, rfl⟩, q1498, q69, by decide +kernel, by decide +kernel⟩
theorem pf_X1_checkArgument : plainFor yX1_checkArgument = true := by decide +kernel
abbrev w_X1_checkElement : Cond := Cond.code yX1_checkElement cX1_checkElement 1 none
theorem mi_X1_checkElement : gMi yX1_checkElement w_X1_checkElement 1 1 := ⟨Or.inl ⟨_, _, rfl⟩, q1805, q69, by decide +kernel, by decide +kernel⟩
theorem pf_X1_checkElement : plainFor yX1_checkElement = true := by decide +kernel
abbrev w_X1_checkFloor : Cond := Cond.code yX1_checkFloor cX1_checkFloor 1 none
theorem mi_X1_checkFloor : gMi yX1_checkFloor w_X1_checkFloor 1 1 := ⟨Or.inl ⟨_, _, rfl⟩, q1578, q69, by decide +kernel, by decide +kernel⟩
theorem pf_X1_checkFloor : plainFor yX1_checkFloor = true := by decide +kernel
abbrev w_X1_checkHeight : Cond := Cond.code yX1_checkHeight cX1_checkHeight 1 none
theorem mi_X1_checkHeight : gMi yX1_checkHeight w_X1_checkHeight 1 1 := ⟨Or.inl ⟨_, _, rfl⟩, q1510, q69, by decide +kernel, by decide +kernel⟩
theorem pf_X1_checkHeight : plainFor yX1_checkHeight = true := by decide +kernel
abbrev w_X1_checkIndex : Cond := Cond.code yX1_checkIndex cX1_checkIndex 1 none
theorem mi_X1_checkIndex : gMi yX1_checkIndex w_X1_checkIndex 1 1 := ⟨Or.inl ⟨_, _, rfl⟩, q1464, q69, by decide +kernel, by decide +kernel⟩
theorem pf_X1_checkIndex : plainFor yX1_checkIndex = true := by decide +kernel
abbrev w_X1_checkNumbers : Cond := Cond.code yX1_checkNumbers cX1_checkNumbers 1 none
theorem mi_X1_checkNumbers : gMi yX1_checkNumbers w_X1_checkNumbers 1 1 := ⟨Or.inl ⟨_, _, rfl⟩, q2039, q69, by decide +kernel, by decide +kernel⟩
theorem pf_X1_checkNumbers : plainFor yX1_checkNumbers = true := by decide +kernel
abbrev w_X1_checkState : Cond := Cond.code yX1_checkState cX1_checkState 1 none
theorem mi_X1_checkState : gMi yX1_checkState w_X1_checkState 1 1 := ⟨Or.inl ⟨_, _, rfl⟩, q1544, q69, by decide +kernel, by decide +kernel⟩
theorem pf_X1_checkState : plainFor yX1_checkState = true := by decide +kernel
abbrev w_X1_clear : Cond := Cond.code yX1_clear cX1_clear 2 (some .int)
theorem mi_X1_clear : gMi yX1_clear w_X1_clear 2 0 := ⟨Or.inl ⟨_, _, rfl⟩, q305, q69, by decide +kernel, by decide +kernel⟩
theorem pf_X1_clear : plainFor yX1_clear = true := by decide +kernel
abbrev w_X1_cue : Cond := Cond.code yX1_cue cX1_cue 7 (some .int)
theorem mi_X1_cue : gMi yX1_cue w_X1_cue 7 4 := ⟨Or.inl ⟨_, _, rfl⟩, q1894, q69, by decide +kernel, by decide +kernel⟩
theorem pf_X1_cue : plainFor yX1_cue = true := by decide +kernel
abbrev w_X1_cueLine : Cond := Cond.code yX1_cueLine cX1_cueLine 1 (some .int)
theorem mi_X1_cueLine : gMi yX1_cueLine w_X1_cueLine 1 0 := ⟨Or.inl ⟨_, _, rfl⟩, q1270, q69, by decide +kernel, by decide +kernel⟩
theorem pf_X1_cueLine : plainFor yX1_cueLine = true := by decide +kernel
abbrev w_X1_cueOf : Cond := Cond.code yX1_cueOf cX1_cueOf 4 (some .int)
theorem mi_X1_cueOf : gMi yX1_cueOf w_X1_cueOf 4 2 := ⟨Or.inl ⟨_, _, rfl⟩, q1936, q69, by decide +kernel, by decide +kernel⟩
theorem pf_X1_cueOf : plainFor yX1_cueOf = true := by decide +kernel
abbrev w_X1_curtain : Cond := Cond.code yX1_curtain cX1_curtain 2 (some .int)
theorem mi_X1_curtain : gMi yX1_curtain w_X1_curtain 2 1 := ⟨Or.inl ⟨_, _, rfl⟩, q1706, q69, by decide +kernel, by decide +kernel⟩
theorem pf_X1_curtain : plainFor yX1_curtain = true := by decide +kernel
abbrev w_X1_curtainOn : Cond := Cond.code yX1_curtainOn cX1_curtainOn 7 (some .int)
theorem mi_X1_curtainOn : gMi yX1_curtainOn w_X1_curtainOn 7 2 := ⟨Or.inl ⟨_, _, rfl⟩, q1723, q69, by decide +kernel, by decide +kernel⟩
theorem pf_X1_curtainOn : plainFor yX1_curtainOn = true := by decide +kernel
abbrev w_X1_door : Cond := Cond.code yX1_door cX1_door 3 (some .int)
theorem mi_X1_door : gMi yX1_door w_X1_door 3 2 := ⟨Or.inl ⟨_, _, rfl⟩, q1853, q69, by decide +kernel, by decide +kernel⟩
theorem pf_X1_door : plainFor yX1_door = true := by decide +kernel
abbrev w_X1_drop : Cond := Cond.code yX1_drop cX1_drop 2 (some .int)
theorem mi_X1_drop : gMi yX1_drop w_X1_drop 2 1 := ⟨Or.inl ⟨_, _, rfl⟩, q1752, q69, by decide +kernel, by decide +kernel⟩
theorem pf_X1_drop : plainFor yX1_drop = true := by decide +kernel
abbrev w_X1_errorPosition : Cond := Cond.code yX1_errorPosition cX1_errorPosition 1 (some .int)
theorem mi_X1_errorPosition : gMi yX1_errorPosition w_X1_errorPosition 1 0 := ⟨Or.inl ⟨_, _, rfl⟩, q2202, q69, by decide +kernel, by decide +kernel⟩
theorem pf_X1_errorPosition : plainFor yX1_errorPosition = true := by decide +kernel
abbrev w_X1_fly : Cond := Cond.code yX1_fly cX1_fly 3 (some .int)
theorem mi_X1_fly : gMi yX1_fly w_X1_fly 3 2 := ⟨Or.inl ⟨_, _, rfl⟩, q1875, q69, by decide +kernel, by decide +kernel⟩
theorem pf_X1_fly : plainFor yX1_fly = true := by decide +kernel
abbrev w_X1_found : Cond := Cond.code yX1_found cX1_found 2 (some .int)
theorem mi_X1_found : gMi yX1_found w_X1_found 2 1 := ⟨Or.inl ⟨_, _, rfl⟩, q1799, q69, by decide +kernel, by decide +kernel⟩
theorem pf_X1_found : plainFor yX1_found = true := by decide +kernel
abbrev w_X1_go : Cond := Cond.code yX1_go cX1_go 1 (some .int)
theorem mi_X1_go : gMi yX1_go w_X1_go 1 0 := ⟨Or.inl ⟨_, _, rfl⟩, q1953, q69, by decide +kernel, by decide +kernel⟩
theorem pf_X1_go : plainFor yX1_go = true := by decide +kernel
abbrev w_X1_hand : Cond := Cond.code yX1_hand cX1_hand 3 (some .int)
theorem mi_X1_hand : gMi yX1_hand w_X1_hand 3 2 := ⟨Or.inl ⟨_, _, rfl⟩, q1828, q69, by decide +kernel, by decide +kernel⟩
theorem pf_X1_hand : plainFor yX1_hand = true := by decide +kernel
abbrev w_X1_hang : Cond := Cond.code yX1_hang cX1_hang 3 (some .int)
theorem mi_X1_hang : gMi yX1_hang w_X1_hang 3 2 := ⟨Or.inl ⟨_, _, rfl⟩, q1744, q69, by decide +kernel, by decide +kernel⟩
theorem pf_X1_hang : plainFor yX1_hang = true := by decide +kernel
abbrev w_X1_inRange : Cond := Cond.code yX1_inRange cX1_inRange 6 (some .boolean)
theorem mi_X1_inRange : gMi yX1_inRange w_X1_inRange 6 3 := ⟨Or.inl ⟨_, _, rfl⟩, q1461, q69, by decide +kernel, by decide +kernel⟩
theorem pf_X1_inRange : plainFor yX1_inRange = true := by decide +kernel
abbrev w_X1_init : Cond := Cond.code yX1_init cX1_init 1 none
theorem mi_X1_init : gMi yX1_init w_X1_init 1 0 := ⟨Or.inl ⟨_, _, rfl⟩, q122, q69, by decide +kernel, by decide +kernel⟩
theorem pf_X1_init : plainFor yX1_init = true := by decide +kernel
abbrev w_X1_line : Cond := Cond.code yX1_line cX1_line 2 (some .int)
theorem mi_X1_line : gMi yX1_line w_X1_line 2 1 := ⟨Or.inl ⟨_, _, rfl⟩, q1961, q69, by decide +kernel, by decide +kernel⟩
theorem pf_X1_line : plainFor yX1_line = true := by decide +kernel
abbrev w_X1_meanHeight : Cond := Cond.code yX1_meanHeight cX1_meanHeight 2 (some .double)
theorem mi_X1_meanHeight : gMi yX1_meanHeight w_X1_meanHeight 2 0 := ⟨Or.inl ⟨_, _, rfl⟩, q2036, q69, by decide +kernel, by decide +kernel⟩
theorem pf_X1_meanHeight : plainFor yX1_meanHeight = true := by decide +kernel
abbrev w_X1_move : Cond := Cond.code yX1_move cX1_move 3 (some .int)
theorem mi_X1_move : gMi yX1_move w_X1_move 3 2 := ⟨Or.inl ⟨_, _, rfl⟩, q1836, q69, by decide +kernel, by decide +kernel⟩
theorem pf_X1_move : plainFor yX1_move = true := by decide +kernel
abbrev w_X1_nextLight : Cond := Cond.code yX1_nextLight cX1_nextLight 1 (some .int)
theorem mi_X1_nextLight : gMi yX1_nextLight w_X1_nextLight 1 0 := ⟨Or.inl ⟨_, _, rfl⟩, q1945, q69, by decide +kernel, by decide +kernel⟩
theorem pf_X1_nextLight : plainFor yX1_nextLight = true := by decide +kernel
abbrev w_X1_noise : Cond := Cond.code yX1_noise cX1_noise 5 (some .int)
theorem mi_X1_noise : gMi yX1_noise w_X1_noise 5 3 := ⟨Or.inl ⟨_, _, rfl⟩, q1862, q69, by decide +kernel, by decide +kernel⟩
theorem pf_X1_noise : plainFor yX1_noise = true := by decide +kernel
abbrev w_X1_playable : Cond := Cond.code yX1_playable cX1_playable 1 (some .int)
theorem mi_X1_playable : gMi yX1_playable w_X1_playable 1 0 := ⟨Or.inl ⟨_, _, rfl⟩, q324, q69, by decide +kernel, by decide +kernel⟩
theorem pf_X1_playable : plainFor yX1_playable = true := by decide +kernel
abbrev w_X1_read : Cond := Cond.codeWith yX1_read cX1_read 7 (some .int) [(15, 57, 60, 92), (15, 57, 81, 7), (15, 57, 81, 1)]
theorem mi_X1_read : gMi yX1_read w_X1_read 7 0 := ⟨Or.inr ⟨_, _, _, rfl⟩, q2068, q69, by decide +kernel, by decide +kernel⟩
theorem pf_X1_read : plainFor yX1_read = true := by decide +kernel
abbrev w_X1_refusal : Cond := Cond.code yX1_refusal cX1_refusal 2 (some .int)
theorem mi_X1_refusal : gMi yX1_refusal w_X1_refusal 2 1 := ⟨Or.inl ⟨_, _, rfl⟩, q1999, q69, by decide +kernel, by decide +kernel⟩
theorem pf_X1_refusal : plainFor yX1_refusal = true := by decide +kernel
abbrev w_X1_refusedItem : Cond := Cond.code yX1_refusedItem cX1_refusedItem 1 (some .int)
theorem mi_X1_refusedItem : gMi yX1_refusedItem w_X1_refusedItem 1 0 := ⟨Or.inl ⟨_, _, rfl⟩, q2209, q69, by decide +kernel, by decide +kernel⟩
theorem pf_X1_refusedItem : plainFor yX1_refusedItem = true := by decide +kernel
abbrev w_X1_restore : Cond := Cond.code yX1_restore cX1_restore 1 (some .int)
theorem mi_X1_restore : gMi yX1_restore w_X1_restore 1 0 := ⟨Or.inl ⟨_, _, rfl⟩, q2238, q69, by decide +kernel, by decide +kernel⟩
theorem pf_X1_restore : plainFor yX1_restore = true := by decide +kernel
abbrev w_X1_rope : Cond := Cond.code yX1_rope cX1_rope 2 (some .int)
theorem mi_X1_rope : gMi yX1_rope w_X1_rope 2 1 := ⟨Or.inl ⟨_, _, rfl⟩, q1690, q69, by decide +kernel, by decide +kernel⟩
theorem pf_X1_rope : plainFor yX1_rope = true := by decide +kernel
abbrev w_X1_snapshot : Cond := Cond.code yX1_snapshot cX1_snapshot 1 (some .int)
theorem mi_X1_snapshot : gMi yX1_snapshot w_X1_snapshot 1 0 := ⟨Or.inl ⟨_, _, rfl⟩, q1328, q69, by decide +kernel, by decide +kernel⟩
theorem pf_X1_snapshot : plainFor yX1_snapshot = true := by decide +kernel
abbrev w_X1_storeAgain : Cond := Cond.code yX1_storeAgain cX1_storeAgain 1 (some .int)
theorem mi_X1_storeAgain : gMi yX1_storeAgain w_X1_storeAgain 1 0 := ⟨Or.inl ⟨_, _, rfl⟩, q1310, q69, by decide +kernel, by decide +kernel⟩
theorem pf_X1_storeAgain : plainFor yX1_storeAgain = true := by decide +kernel
abbrev w_X1_strength : Cond := Cond.code yX1_strength cX1_strength 2 (some .int)
theorem mi_X1_strength : gMi yX1_strength w_X1_strength 2 1 := ⟨Or.inl ⟨_, _, rfl⟩, q1844, q69, by decide +kernel, by decide +kernel⟩
theorem pf_X1_strength : plainFor yX1_strength = true := by decide +kernel
abbrev w_X1_takeItems : Cond := Cond.codeWith yX1_takeItems cX1_takeItems 3 (some (.object "java/util/ArrayList")) [(23, 27, 28, 369)]
theorem mi_X1_takeItems : gMi yX1_takeItems w_X1_takeItems 3 0 := ⟨Or.inr ⟨_, _, _, rfl⟩, q2072, q69, by decide +kernel, by decide +kernel⟩
theorem pf_X1_takeItems : plainFor yX1_takeItems = true := by decide +kernel
abbrev w_X1_told : Cond := Cond.code yX1_told cX1_told 2 (some .int)
theorem mi_X1_told : gMi yX1_told w_X1_told 2 1 := ⟨Or.inl ⟨_, _, rfl⟩, q1336, q69, by decide +kernel, by decide +kernel⟩
theorem pf_X1_told : plainFor yX1_told = true := by decide +kernel
abbrev w_X1_undo : Cond := Cond.code yX1_undo cX1_undo 1 (some .int)
theorem mi_X1_undo : gMi yX1_undo w_X1_undo 1 0 := ⟨Or.inl ⟨_, _, rfl⟩, q2216, q69, by decide +kernel, by decide +kernel⟩
theorem pf_X1_undo : plainFor yX1_undo = true := by decide +kernel
abbrev w_X1_weights : Cond := Cond.code yX1_weights cX1_weights 3 (some .int)
theorem mi_X1_weights : gMi yX1_weights w_X1_weights 3 2 := ⟨Or.inl ⟨_, _, rfl⟩, q1760, q69, by decide +kernel, by decide +kernel⟩
theorem pf_X1_weights : plainFor yX1_weights = true := by decide +kernel
abbrev w_X1_wouldRefuse : Cond := Cond.code yX1_wouldRefuse cX1_wouldRefuse 2 (some .int)
theorem mi_X1_wouldRefuse : gMi yX1_wouldRefuse w_X1_wouldRefuse 2 1 := ⟨Or.inl ⟨_, _, rfl⟩, q1883, q69, by decide +kernel, by decide +kernel⟩
theorem pf_X1_wouldRefuse : plainFor yX1_wouldRefuse = true := by decide +kernel
abbrev w_X1_year : Cond := Cond.code yX1_year cX1_year 2 (some .int)
theorem mi_X1_year : gMi yX1_year w_X1_year 2 1 := ⟨Or.inl ⟨_, _, rfl⟩, q1698, q69, by decide +kernel, by decide +kernel⟩
theorem pf_X1_year : plainFor yX1_year = true := by decide +kernel
abbrev w_X10_check : Cond := Cond.code yX10_check cX10_check 3 none
theorem mi_X10_check : gMi yX10_check w_X10_check 3 3 := ⟨Or.inl ⟨_, _, rfl⟩, q1144, q102, by decide +kernel, by decide +kernel⟩
theorem pf_X10_check : plainFor yX10_check = true := by decide +kernel
abbrev w_X10_init : Cond := Cond.code yX10_init cX10_init 3 none
theorem mi_X10_init : gMi yX10_init w_X10_init 3 2 := ⟨Or.inl ⟨_, _, rfl⟩, q1156, q102, by decide +kernel, by decide +kernel⟩
theorem pf_X10_init : plainFor yX10_init = true := by decide +kernel
abbrev w_X11_init : Cond := Cond.code yX11_init cX11_init 3 none
theorem mi_X11_init : gMi yX11_init w_X11_init 3 2 := ⟨Or.inl ⟨_, _, rfl⟩, q1210, q103, by decide +kernel, by decide +kernel⟩
theorem pf_X11_init : plainFor yX11_init = true := by decide +kernel
abbrev w_X11_of : Cond := Cond.code yX11_of cX11_of 2 (some .int)
theorem mi_X11_of : gMi yX11_of w_X11_of 2 1 := ⟨Or.inl ⟨_, _, rfl⟩, q1248, q103, by decide +kernel, by decide +kernel⟩
theorem pf_X11_of : plainFor yX11_of = true := by decide +kernel
abbrev w_X11_of_2 : Cond := Cond.code yX11_of_2 cX11_of_2 2 (some .int)
theorem mi_X11_of_2 : gMi yX11_of_2 w_X11_of_2 2 1 := ⟨Or.inl ⟨_, _, rfl⟩, q1253, q103, by decide +kernel, by decide +kernel⟩
theorem pf_X11_of_2 : plainFor yX11_of_2 = true := by decide +kernel
abbrev w_X12_sum : Cond := Cond.code yX12_sum cX12_sum 5 (some .int)
theorem mi_X12_sum : gMi yX12_sum w_X12_sum 5 2 := ⟨Or.inl ⟨_, _, rfl⟩, q1221, q104, by decide +kernel, by decide +kernel⟩
theorem pf_X12_sum : plainFor yX12_sum = true := by decide +kernel
abbrev w_X13_hasNext : Cond := Cond.code yX13_hasNext cX13_hasNext 1 (some .boolean)
theorem mi_X13_hasNext : gMi yX13_hasNext w_X13_hasNext 1 0 := ⟨Or.inl ⟨_, _, rfl⟩, q374, q105, by decide +kernel, by decide +kernel⟩
theorem pf_X13_hasNext : plainFor yX13_hasNext = true := by decide +kernel
abbrev w_X13_init : Cond := Cond.code yX13_init cX13_init 2 none
theorem mi_X13_init : gMi yX13_init w_X13_init 2 1 := ⟨Or.inl ⟨_, _, rfl⟩, q751, q105, by decide +kernel, by decide +kernel⟩
theorem pf_X13_init : plainFor yX13_init = true := by decide +kernel
abbrev w_X13_next : Cond := Cond.code yX13_next cX13_next 1 (some (.object "java/lang/Object"))
theorem mi_X13_next : gMi yX13_next w_X13_next 1 0 := ⟨Or.inl ⟨_, _, rfl⟩, q396, q105, by decide +kernel, by decide +kernel⟩
theorem pf_X13_next : plainFor yX13_next = true := by decide +kernel
abbrev w_X13_next_2 : Cond := Cond.code yX13_next_2 cX13_next_2 1 (some (.object "CurtainRiggers$Numbered"))
theorem mi_X13_next_2 : gMi yX13_next_2 w_X13_next_2 1 0 := ⟨Or.inl ⟨_, _, rfl⟩, q400, q105, by decide +kernel, by decide +kernel⟩
theorem pf_X13_next_2 : plainFor yX13_next_2 = true := by decide +kernel
abbrev w_X14_init : Cond := Cond.code yX14_init cX14_init 1 none
theorem mi_X14_init : gMi yX14_init w_X14_init 1 0 := ⟨Or.inl ⟨_, _, rfl⟩, q738, q107, by decide +kernel, by decide +kernel⟩
theorem pf_X14_init : plainFor yX14_init = true := by decide +kernel
abbrev w_X14_isAhead : Cond := Cond.code yX14_isAhead cX14_isAhead 3 (some .boolean)
theorem mi_X14_isAhead : gMi yX14_isAhead w_X14_isAhead 3 2 := ⟨Or.inl ⟨_, _, rfl⟩, q770, q107, by decide +kernel, by decide +kernel⟩
theorem pf_X14_isAhead : plainFor yX14_isAhead = true := by decide +kernel
abbrev w_X14_isAhead_2 : Cond := Cond.code yX14_isAhead_2 cX14_isAhead_2 3 (some .boolean)
theorem mi_X14_isAhead_2 : gMi yX14_isAhead_2 w_X14_isAhead_2 3 2 := ⟨Or.inl ⟨_, _, rfl⟩, q1138, q107, by decide +kernel, by decide +kernel⟩
theorem pf_X14_isAhead_2 : plainFor yX14_isAhead_2 = true := by decide +kernel
abbrev w_X15_first : Cond := Cond.code yX15_first cX15_first 5 (some (.object "java/lang/Object"))
theorem mi_X15_first : gMi yX15_first w_X15_first 5 2 := ⟨Or.inl ⟨_, _, rfl⟩, q1056, q108, by decide +kernel, by decide +kernel⟩
theorem pf_X15_first : plainFor yX15_first = true := by decide +kernel
abbrev w_X16_init : Cond := Cond.code yX16_init cX16_init 2 none
theorem mi_X16_init : gMi yX16_init w_X16_init 2 1 := ⟨Or.inl ⟨_, _, rfl⟩, q1791, q112, by decide +kernel, by decide +kernel⟩
theorem pf_X16_init : plainFor yX16_init = true := by decide +kernel
abbrev w_X16_isAhead : Cond := Cond.code yX16_isAhead cX16_isAhead 3 (some .boolean)
theorem mi_X16_isAhead : gMi yX16_isAhead w_X16_isAhead 3 2 := ⟨Or.inl ⟨_, _, rfl⟩, q1114, q112, by decide +kernel, by decide +kernel⟩
theorem pf_X16_isAhead : plainFor yX16_isAhead = true := by decide +kernel
abbrev w_X16_isAhead_2 : Cond := Cond.code yX16_isAhead_2 cX16_isAhead_2 3 (some .boolean)
theorem mi_X16_isAhead_2 : gMi yX16_isAhead_2 w_X16_isAhead_2 3 2 := ⟨Or.inl ⟨_, _, rfl⟩, q1119, q112, by decide +kernel, by decide +kernel⟩
theorem pf_X16_isAhead_2 : plainFor yX16_isAhead_2 = true := by decide +kernel
abbrev w_X16_outBy : Cond := Cond.code yX16_outBy cX16_outBy 2 (some .int)
theorem mi_X16_outBy : gMi yX16_outBy w_X16_outBy 2 1 := ⟨Or.inl ⟨_, _, rfl⟩, q1124, q112, by decide +kernel, by decide +kernel⟩
theorem pf_X16_outBy : plainFor yX16_outBy = true := by decide +kernel
abbrev w_X17_copy : Cond := Cond.code yX17_copy cX17_copy 1 (some (.object "CurtainRiggers$Numbered"))
theorem mi_X17_copy : gMi yX17_copy w_X17_copy 1 0 := ⟨Or.inl ⟨_, _, rfl⟩, q576, q113, by decide +kernel, by decide +kernel⟩
theorem pf_X17_copy : plainFor yX17_copy = true := by decide +kernel
abbrev w_X17_copy_2 : Cond := Cond.code yX17_copy_2 cX17_copy_2 1 (some (.object "CurtainRiggers$Cue"))
theorem mi_X17_copy_2 : gMi yX17_copy_2 w_X17_copy_2 1 0 := ⟨Or.inl ⟨_, _, rfl⟩, q580, q113, by decide +kernel, by decide +kernel⟩
theorem pf_X17_copy_2 : plainFor yX17_copy_2 = true := by decide +kernel
abbrev w_X17_init : Cond := Cond.code yX17_init cX17_init 5 none
theorem mi_X17_init : gMi yX17_init w_X17_init 5 4 := ⟨Or.inl ⟨_, _, rfl⟩, q1899, q113, by decide +kernel, by decide +kernel⟩
theorem pf_X17_init : plainFor yX17_init = true := by decide +kernel
abbrev w_X17_number : Cond := Cond.code yX17_number cX17_number 1 (some .int)
theorem mi_X17_number : gMi yX17_number w_X17_number 1 0 := ⟨Or.inl ⟨_, _, rfl⟩, q790, q113, by decide +kernel, by decide +kernel⟩
theorem pf_X17_number : plainFor yX17_number = true := by decide +kernel
abbrev w_X18_init : Cond := Cond.code yX18_init cX18_init 2 none
theorem mi_X18_init : gMi yX18_init w_X18_init 2 1 := ⟨Or.inl ⟨_, _, rfl⟩, q1319, q114, by decide +kernel, by decide +kernel⟩
theorem pf_X18_init : plainFor yX18_init = true := by decide +kernel
abbrev w_X18_of : Cond := Cond.code yX18_of cX18_of 2 (some .int)
theorem mi_X18_of : gMi yX18_of w_X18_of 2 1 := ⟨Or.inl ⟨_, _, rfl⟩, q1237, q114, by decide +kernel, by decide +kernel⟩
theorem pf_X18_of : plainFor yX18_of = true := by decide +kernel
abbrev w_X18_of_2 : Cond := Cond.code yX18_of_2 cX18_of_2 2 (some .int)
theorem mi_X18_of_2 : gMi yX18_of_2 w_X18_of_2 2 1 := ⟨Or.inl ⟨_, _, rfl⟩, q1242, q114, by decide +kernel, by decide +kernel⟩
theorem pf_X18_of_2 : plainFor yX18_of_2 = true := by decide +kernel
abbrev w_X19_behindBlank : Cond := Cond.code yX19_behindBlank cX19_behindBlank 3 (some .int)
theorem mi_X19_behindBlank : gMi yX19_behindBlank w_X19_behindBlank 3 1 := ⟨Or.inl ⟨_, _, rfl⟩, q2192, q116, by decide +kernel, by decide +kernel⟩
theorem pf_X19_behindBlank : plainFor yX19_behindBlank = true := by decide +kernel
abbrev w_X19_common : Cond := Cond.code yX19_common cX19_common 3 (some .int)
theorem mi_X19_common : gMi yX19_common w_X19_common 3 1 := ⟨Or.inl ⟨_, _, rfl⟩, q2115, q116, by decide +kernel, by decide +kernel⟩
theorem pf_X19_common : plainFor yX19_common = true := by decide +kernel
abbrev w_X19_digit : Cond := Cond.code yX19_digit cX19_digit 1 (some .int)
theorem mi_X19_digit : gMi yX19_digit w_X19_digit 1 0 := ⟨Or.inl ⟨_, _, rfl⟩, q2179, q116, by decide +kernel, by decide +kernel⟩
theorem pf_X19_digit : plainFor yX19_digit = true := by decide +kernel
abbrev w_X19_init : Cond := Cond.code yX19_init cX19_init 2 none
theorem mi_X19_init : gMi yX19_init w_X19_init 2 1 := ⟨Or.inl ⟨_, _, rfl⟩, q2078, q116, by decide +kernel, by decide +kernel⟩
theorem pf_X19_init : plainFor yX19_init = true := by decide +kernel
abbrev w_X19_isNext : Cond := Cond.code yX19_isNext cX19_isNext 3 (some .boolean)
theorem mi_X19_isNext : gMi yX19_isNext w_X19_isNext 3 2 := ⟨Or.inl ⟨_, _, rfl⟩, q2187, q116, by decide +kernel, by decide +kernel⟩
theorem pf_X19_isNext : plainFor yX19_isNext = true := by decide +kernel
abbrev w_X19_item : Cond := Cond.code yX19_item cX19_item 5 (some (.object "CurtainRiggers$Change"))
theorem mi_X19_item : gMi yX19_item w_X19_item 5 0 := ⟨Or.inl ⟨_, _, rfl⟩, q2096, q116, by decide +kernel, by decide +kernel⟩
theorem pf_X19_item : plainFor yX19_item = true := by decide +kernel
abbrev w_X19_items : Cond := Cond.code yX19_items cX19_items 4 (some (.object "java/util/ArrayList"))
theorem mi_X19_items : gMi yX19_items w_X19_items 4 0 := ⟨Or.inl ⟨_, _, rfl⟩, q2090, q116, by decide +kernel, by decide +kernel⟩
theorem pf_X19_items : plainFor yX19_items = true := by decide +kernel
abbrev w_X19_number : Cond := Cond.code yX19_number cX19_number 2 (some .int)
theorem mi_X19_number : gMi yX19_number w_X19_number 2 0 := ⟨Or.inl ⟨_, _, rfl⟩, q2175, q116, by decide +kernel, by decide +kernel⟩
theorem pf_X19_number : plainFor yX19_number = true := by decide +kernel
abbrev w_X19_take : Cond := Cond.code yX19_take cX19_take 3 (some .int)
theorem mi_X19_take : gMi yX19_take w_X19_take 3 2 := ⟨Or.inl ⟨_, _, rfl⟩, q2183, q116, by decide +kernel, by decide +kernel⟩
theorem pf_X19_take : plainFor yX19_take = true := by decide +kernel
abbrev w_X19_word : Cond := Cond.code yX19_word cX19_word 8 (some (.object "java/lang/String"))
theorem mi_X19_word : gMi yX19_word w_X19_word 8 1 := ⟨Or.inl ⟨_, _, rfl⟩, q2111, q116, by decide +kernel, by decide +kernel⟩
theorem pf_X19_word : plainFor yX19_word = true := by decide +kernel
abbrev w_X2_addCue : Cond := Cond.code yX2_addCue cX2_addCue 3 (some .int)
theorem mi_X2_addCue : gMi yX2_addCue w_X2_addCue 3 1 := ⟨Or.inl ⟨_, _, rfl⟩, q1924, q70, by decide +kernel, by decide +kernel⟩
theorem pf_X2_addCue : plainFor yX2_addCue = true := by decide +kernel
abbrev w_X2_addCurtain : Cond := Cond.code yX2_addCurtain cX2_addCurtain 2 (some .int)
theorem mi_X2_addCurtain : gMi yX2_addCurtain w_X2_addCurtain 2 1 := ⟨Or.inl ⟨_, _, rfl⟩, q1567, q70, by decide +kernel, by decide +kernel⟩
theorem pf_X2_addCurtain : plainFor yX2_addCurtain = true := by decide +kernel
abbrev w_X2_addHand : Cond := Cond.code yX2_addHand cX2_addHand 3 (some .int)
theorem mi_X2_addHand : gMi yX2_addHand w_X2_addHand 3 2 := ⟨Or.inl ⟨_, _, rfl⟩, q1575, q70, by decide +kernel, by decide +kernel⟩
theorem pf_X2_addHand : plainFor yX2_addHand = true := by decide +kernel
abbrev w_X2_addWeights : Cond := Cond.code yX2_addWeights cX2_addWeights 4 (some .int)
theorem mi_X2_addWeights : gMi yX2_addWeights w_X2_addWeights 4 2 := ⟨Or.inl ⟨_, _, rfl⟩, q1492, q70, by decide +kernel, by decide +kernel⟩
theorem pf_X2_addWeights : plainFor yX2_addWeights = true := by decide +kernel
abbrev w_X2_age : Cond := Cond.code yX2_age cX2_age 5 (some .int)
theorem mi_X2_age : gMi yX2_age w_X2_age 5 1 := ⟨Or.inl ⟨_, _, rfl⟩, q1524, q70, by decide +kernel, by decide +kernel⟩
theorem pf_X2_age : plainFor yX2_age = true := by decide +kernel
abbrev w_X2_bar : Cond := Cond.code yX2_bar cX2_bar 2 (some (.object "CurtainRiggers$Bar"))
theorem mi_X2_bar : gMi yX2_bar w_X2_bar 2 1 := ⟨Or.inl ⟨_, _, rfl⟩, q1475, q70, by decide +kernel, by decide +kernel⟩
theorem pf_X2_bar : plainFor yX2_bar = true := by decide +kernel
abbrev w_X2_bestAgain : Cond := Cond.code yX2_bestAgain cX2_bestAgain 7 (some (.object "CurtainRiggers$Bar"))
theorem mi_X2_bestAgain : gMi yX2_bestAgain w_X2_bestAgain 7 1 := ⟨Or.inl ⟨_, _, rfl⟩, q1816, q70, by decide +kernel, by decide +kernel⟩
theorem pf_X2_bestAgain : plainFor yX2_bestAgain = true := by decide +kernel
abbrev w_X2_bestBar : Cond := Cond.code yX2_bestBar cX2_bestBar 2 (some (.object "CurtainRiggers$Bar"))
theorem mi_X2_bestBar : gMi yX2_bestBar w_X2_bestBar 2 1 := ⟨Or.inl ⟨_, _, rfl⟩, q1783, q70, by decide +kernel, by decide +kernel⟩
theorem pf_X2_bestBar : plainFor yX2_bestBar = true := by decide +kernel
abbrev w_X2_checkFlight : Cond := Cond.code yX2_checkFlight cX2_checkFlight 3 none
theorem mi_X2_checkFlight : gMi yX2_checkFlight w_X2_checkFlight 3 1 := ⟨Or.inl ⟨_, _, rfl⟩, q1183, q70, by decide +kernel, by decide +kernel⟩
theorem pf_X2_checkFlight : plainFor yX2_checkFlight = true := by decide +kernel
abbrev w_X2_copy : Cond := Cond.code yX2_copy cX2_copy 2 (some (.object "CurtainRiggers$Theatre"))
theorem mi_X2_copy : gMi yX2_copy w_X2_copy 2 0 := ⟨Or.inl ⟨_, _, rfl⟩, q333, q70, by decide +kernel, by decide +kernel⟩
theorem pf_X2_copy : plainFor yX2_copy = true := by decide +kernel
abbrev w_X2_cueWith : Cond := Cond.code yX2_cueWith cX2_cueWith 5 (some (.object "CurtainRiggers$Cue"))
theorem mi_X2_cueWith : gMi yX2_cueWith w_X2_cueWith 5 1 := ⟨Or.inl ⟨_, _, rfl⟩, q1929, q70, by decide +kernel, by decide +kernel⟩
theorem pf_X2_cueWith : plainFor yX2_cueWith = true := by decide +kernel
abbrev w_X2_cuesAbove : Cond := Cond.code yX2_cuesAbove cX2_cuesAbove 7 (some (.object "java/util/ArrayList"))
theorem mi_X2_cuesAbove : gMi yX2_cuesAbove w_X2_cuesAbove 7 1 := ⟨Or.inl ⟨_, _, rfl⟩, q733, q70, by decide +kernel, by decide +kernel⟩
theorem pf_X2_cuesAbove : plainFor yX2_cuesAbove = true := by decide +kernel
abbrev w_X2_curtain : Cond := Cond.code yX2_curtain cX2_curtain 2 (some (.object "CurtainRiggers$Curtain"))
theorem mi_X2_curtain : gMi yX2_curtain w_X2_curtain 2 1 := ⟨Or.inl ⟨_, _, rfl⟩, q1454, q70, by decide +kernel, by decide +kernel⟩
theorem pf_X2_curtain : plainFor yX2_curtain = true := by decide +kernel
abbrev w_X2_curtainsOn : Cond := Cond.code yX2_curtainsOn cX2_curtainsOn 6 (some (.object "java/lang/Iterable"))
theorem mi_X2_curtainsOn : gMi yX2_curtainsOn w_X2_curtainsOn 6 1 := ⟨Or.inl ⟨_, _, rfl⟩, q1727, q70, by decide +kernel, by decide +kernel⟩
theorem pf_X2_curtainsOn : plainFor yX2_curtainsOn = true := by decide +kernel
abbrev w_X2_drop : Cond := Cond.code yX2_drop cX2_drop 4 (some .int)
theorem mi_X2_drop : gMi yX2_drop w_X2_drop 4 1 := ⟨Or.inl ⟨_, _, rfl⟩, q1488, q70, by decide +kernel, by decide +kernel⟩
theorem pf_X2_drop : plainFor yX2_drop = true := by decide +kernel
abbrev w_X2_fly : Cond := Cond.code yX2_fly cX2_fly 4 (some .int)
theorem mi_X2_fly : gMi yX2_fly w_X2_fly 4 2 := ⟨Or.inl ⟨_, _, rfl⟩, q1507, q70, by decide +kernel, by decide +kernel⟩
theorem pf_X2_fly : plainFor yX2_fly = true := by decide +kernel
abbrev w_X2_go : Cond := Cond.code yX2_go cX2_go 4 (some .int)
theorem mi_X2_go : gMi yX2_go w_X2_go 4 0 := ⟨Or.inl ⟨_, _, rfl⟩, q725, q70, by decide +kernel, by decide +kernel⟩
theorem pf_X2_go : plainFor yX2_go = true := by decide +kernel
abbrev w_X2_hand : Cond := Cond.code yX2_hand cX2_hand 2 (some (.object "CurtainRiggers$Hand"))
theorem mi_X2_hand : gMi yX2_hand w_X2_hand 2 1 := ⟨Or.inl ⟨_, _, rfl⟩, q1590, q70, by decide +kernel, by decide +kernel⟩
theorem pf_X2_hand : plainFor yX2_hand = true := by decide +kernel
abbrev w_X2_hang : Cond := Cond.code yX2_hang cX2_hang 5 (some .int)
theorem mi_X2_hang : gMi yX2_hang w_X2_hang 5 2 := ⟨Or.inl ⟨_, _, rfl⟩, q1450, q70, by decide +kernel, by decide +kernel⟩
theorem pf_X2_hang : plainFor yX2_hang = true := by decide +kernel
abbrev w_X2_init : Cond := Cond.code yX2_init cX2_init 1 none
theorem mi_X2_init : gMi yX2_init w_X2_init 1 0 := ⟨Or.inl ⟨_, _, rfl⟩, q130, q70, by decide +kernel, by decide +kernel⟩
theorem pf_X2_init : plainFor yX2_init = true := by decide +kernel
abbrev w_X2_lift : Cond := Cond.code yX2_lift cX2_lift 4 (some .int)
theorem mi_X2_lift : gMi yX2_lift w_X2_lift 4 2 := ⟨Or.inl ⟨_, _, rfl⟩, q1266, q70, by decide +kernel, by decide +kernel⟩
theorem pf_X2_lift : plainFor yX2_lift = true := by decide +kernel
abbrev w_X2_low : Cond := Cond.code yX2_low cX2_low 5 (some (.object "java/util/ArrayList"))
theorem mi_X2_low : gMi yX2_low w_X2_low 5 0 := ⟨Or.inl ⟨_, _, rfl⟩, q1787, q70, by decide +kernel, by decide +kernel⟩
theorem pf_X2_low : plainFor yX2_low = true := by decide +kernel
abbrev w_X2_moveHand : Cond := Cond.code yX2_moveHand cX2_moveHand 4 (some .int)
theorem mi_X2_moveHand : gMi yX2_moveHand w_X2_moveHand 4 2 := ⟨Or.inl ⟨_, _, rfl⟩, q1586, q70, by decide +kernel, by decide +kernel⟩
theorem pf_X2_moveHand : plainFor yX2_moveHand = true := by decide +kernel
abbrev w_X2_nextCue : Cond := Cond.code yX2_nextCue cX2_nextCue 1 (some (.object "CurtainRiggers$Cue"))
theorem mi_X2_nextCue : gMi yX2_nextCue w_X2_nextCue 1 0 := ⟨Or.inl ⟨_, _, rfl⟩, q729, q70, by decide +kernel, by decide +kernel⟩
theorem pf_X2_nextCue : plainFor yX2_nextCue = true := by decide +kernel
abbrev w_X2_noise : Cond := Cond.code yX2_noise cX2_noise 3 (some .int)
theorem mi_X2_noise : gMi yX2_noise w_X2_noise 3 2 := ⟨Or.inl ⟨_, _, rfl⟩, q1257, q70, by decide +kernel, by decide +kernel⟩
theorem pf_X2_noise : plainFor yX2_noise = true := by decide +kernel
abbrev w_X2_noiseAgain : Cond := Cond.code yX2_noiseAgain cX2_noiseAgain 10 (some .int)
theorem mi_X2_noiseAgain : gMi yX2_noiseAgain w_X2_noiseAgain 10 2 := ⟨Or.inl ⟨_, _, rfl⟩, q1867, q70, by decide +kernel, by decide +kernel⟩
theorem pf_X2_noiseAgain : plainFor yX2_noiseAgain = true := by decide +kernel
abbrev w_X2_openDoors : Cond := Cond.code yX2_openDoors cX2_openDoors 6 (some .int)
theorem mi_X2_openDoors : gMi yX2_openDoors w_X2_openDoors 6 0 := ⟨Or.inl ⟨_, _, rfl⟩, q1262, q70, by decide +kernel, by decide +kernel⟩
theorem pf_X2_openDoors : plainFor yX2_openDoors = true := by decide +kernel
abbrev w_X2_outOfBalance : Cond := Cond.code yX2_outOfBalance cX2_outOfBalance 4 (some .int)
theorem mi_X2_outOfBalance : gMi yX2_outOfBalance w_X2_outOfBalance 4 0 := ⟨Or.inl ⟨_, _, rfl⟩, q2014, q70, by decide +kernel, by decide +kernel⟩
theorem pf_X2_outOfBalance : plainFor yX2_outOfBalance = true := by decide +kernel
abbrev w_X2_playable : Cond := Cond.codeWith yX2_playable cX2_playable 4 (some .int) [(7, 25, 26, 103)]
theorem mi_X2_playable : gMi yX2_playable w_X2_playable 4 0 := ⟨Or.inr ⟨_, _, _, rfl⟩, q328, q70, by decide +kernel, by decide +kernel⟩
theorem pf_X2_playable : plainFor yX2_playable = true := by decide +kernel
abbrev w_X2_renew : Cond := Cond.code yX2_renew cX2_renew 4 (some .int)
theorem mi_X2_renew : gMi yX2_renew w_X2_renew 4 1 := ⟨Or.inl ⟨_, _, rfl⟩, q1563, q70, by decide +kernel, by decide +kernel⟩
theorem pf_X2_renew : plainFor yX2_renew = true := by decide +kernel
abbrev w_X2_setDoor : Cond := Cond.code yX2_setDoor cX2_setDoor 3 (some .int)
theorem mi_X2_setDoor : gMi yX2_setDoor w_X2_setDoor 3 2 := ⟨Or.inl ⟨_, _, rfl⟩, q1518, q70, by decide +kernel, by decide +kernel⟩
theorem pf_X2_setDoor : plainFor yX2_setDoor = true := by decide +kernel
abbrev w_X2_setTold : Cond := Cond.code yX2_setTold cX2_setTold 3 (some .int)
theorem mi_X2_setTold : gMi yX2_setTold w_X2_setTold 3 1 := ⟨Or.inl ⟨_, _, rfl⟩, q1529, q70, by decide +kernel, by decide +kernel⟩
theorem pf_X2_setTold : plainFor yX2_setTold = true := by decide +kernel
abbrev w_X2_strength : Cond := Cond.code yX2_strength cX2_strength 2 (some .int)
theorem mi_X2_strength : gMi yX2_strength w_X2_strength 2 1 := ⟨Or.inl ⟨_, _, rfl⟩, q1205, q70, by decide +kernel, by decide +kernel⟩
theorem pf_X2_strength : plainFor yX2_strength = true := by decide +kernel
abbrev w_X2_sum : Cond := Cond.code yX2_sum cX2_sum 2 (some .int)
theorem mi_X2_sum : gMi yX2_sum w_X2_sum 2 1 := ⟨Or.inl ⟨_, _, rfl⟩, q1314, q70, by decide +kernel, by decide +kernel⟩
theorem pf_X2_sum : plainFor yX2_sum = true := by decide +kernel
abbrev w_X2_told : Cond := Cond.code yX2_told cX2_told 6 (some (.object "java/lang/String"))
theorem mi_X2_told : gMi yX2_told w_X2_told 6 1 := ⟨Or.inl ⟨_, _, rfl⟩, q1965, q70, by decide +kernel, by decide +kernel⟩
theorem pf_X2_told : plainFor yX2_told = true := by decide +kernel
abbrev w_X2_toldCues : Cond := Cond.code yX2_toldCues cX2_toldCues 6 (some (.object "java/lang/String"))
theorem mi_X2_toldCues : gMi yX2_toldCues w_X2_toldCues 6 0 := ⟨Or.inl ⟨_, _, rfl⟩, q1274, q70, by decide +kernel, by decide +kernel⟩
theorem pf_X2_toldCues : plainFor yX2_toldCues = true := by decide +kernel
abbrev w_X2_wouldRefuse : Cond := Cond.codeWith yX2_wouldRefuse cX2_wouldRefuse 3 (some .int) [(0, 6, 7, 103)]
theorem mi_X2_wouldRefuse : gMi yX2_wouldRefuse w_X2_wouldRefuse 3 1 := ⟨Or.inr ⟨_, _, _, rfl⟩, q1887, q70, by decide +kernel, by decide +kernel⟩
theorem pf_X2_wouldRefuse : plainFor yX2_wouldRefuse = true := by decide +kernel
abbrev w_X20_init : Cond := Cond.code yX20_init cX20_init 2 none
theorem mi_X20_init : gMi yX20_init w_X20_init 2 1 := ⟨Or.inl ⟨_, _, rfl⟩, q2160, q117, by decide +kernel, by decide +kernel⟩
theorem pf_X20_init : plainFor yX20_init = true := by decide +kernel
abbrev w_X3_add : Cond := Cond.code yX3_add cX3_add 3 (some .int)
theorem mi_X3_add : gMi yX3_add w_X3_add 3 1 := ⟨Or.inl ⟨_, _, rfl⟩, q1537, q71, by decide +kernel, by decide +kernel⟩
theorem pf_X3_add : plainFor yX3_add = true := by decide +kernel
abbrev w_X3_checkRoom : Cond := Cond.code yX3_checkRoom cX3_checkRoom 1 none
theorem mi_X3_checkRoom : gMi yX3_checkRoom w_X3_checkRoom 1 0 := ⟨Or.inl ⟨_, _, rfl⟩, q1541, q71, by decide +kernel, by decide +kernel⟩
theorem pf_X3_checkRoom : plainFor yX3_checkRoom = true := by decide +kernel
abbrev w_X3_copy : Cond := Cond.code yX3_copy cX3_copy 5 (some (.object "CurtainRiggers$Row"))
theorem mi_X3_copy : gMi yX3_copy w_X3_copy 5 0 := ⟨Or.inl ⟨_, _, rfl⟩, q339, q71, by decide +kernel, by decide +kernel⟩
theorem pf_X3_copy : plainFor yX3_copy = true := by decide +kernel
abbrev w_X3_get : Cond := Cond.code yX3_get cX3_get 2 (some (.object "CurtainRiggers$Numbered"))
theorem mi_X3_get : gMi yX3_get w_X3_get 2 1 := ⟨Or.inl ⟨_, _, rfl⟩, q1177, q71, by decide +kernel, by decide +kernel⟩
theorem pf_X3_get : plainFor yX3_get = true := by decide +kernel
abbrev w_X3_init : Cond := Cond.code yX3_init cX3_init 2 none
theorem mi_X3_init : gMi yX3_init w_X3_init 2 1 := ⟨Or.inl ⟨_, _, rfl⟩, q136, q71, by decide +kernel, by decide +kernel⟩
theorem pf_X3_init : plainFor yX3_init = true := by decide +kernel
abbrev w_X3_iterator : Cond := Cond.code yX3_iterator cX3_iterator 1 (some (.object "java/util/Iterator"))
theorem mi_X3_iterator : gMi yX3_iterator w_X3_iterator 1 0 := ⟨Or.inl ⟨_, _, rfl⟩, q746, q71, by decide +kernel, by decide +kernel⟩
theorem pf_X3_iterator : plainFor yX3_iterator = true := by decide +kernel
abbrev w_X3_size : Cond := Cond.code yX3_size cX3_size 1 (some .int)
theorem mi_X3_size : gMi yX3_size w_X3_size 1 0 := ⟨Or.inl ⟨_, _, rfl⟩, q309, q71, by decide +kernel, by decide +kernel⟩
theorem pf_X3_size : plainFor yX3_size = true := by decide +kernel
abbrev w_X4_account : Cond := Cond.code yX4_account cX4_account 2 (some .int)
theorem mi_X4_account : gMi yX4_account w_X4_account 2 1 := ⟨Or.inl ⟨_, _, rfl⟩, q2612, q80, by decide +kernel, by decide +kernel⟩
theorem pf_X4_account : plainFor yX4_account = true := by decide +kernel
abbrev w_X4_alike : Cond := Cond.code yX4_alike cX4_alike 3 (some .int)
theorem mi_X4_alike : gMi yX4_alike w_X4_alike 3 1 := ⟨Or.inl ⟨_, _, rfl⟩, q2648, q80, by decide +kernel, by decide +kernel⟩
theorem pf_X4_alike : plainFor yX4_alike = true := by decide +kernel
abbrev w_X4_append : Cond := Cond.code yX4_append cX4_append 6 (some .int)
theorem mi_X4_append : gMi yX4_append w_X4_append 6 1 := ⟨Or.inl ⟨_, _, rfl⟩, q2636, q80, by decide +kernel, by decide +kernel⟩
theorem pf_X4_append : plainFor yX4_append = true := by decide +kernel
abbrev w_X4_balancedShare : Cond := Cond.code yX4_balancedShare cX4_balancedShare 1 (some .float)
theorem mi_X4_balancedShare : gMi yX4_balancedShare w_X4_balancedShare 1 0 := ⟨Or.inl ⟨_, _, rfl⟩, q2632, q80, by decide +kernel, by decide +kernel⟩
theorem pf_X4_balancedShare : plainFor yX4_balancedShare = true := by decide +kernel
abbrev w_X4_bar : Cond := Cond.code yX4_bar cX4_bar 3 (some .int)
theorem mi_X4_bar : gMi yX4_bar w_X4_bar 3 0 := ⟨Or.inl ⟨_, _, rfl⟩, q2360, q80, by decide +kernel, by decide +kernel⟩
theorem pf_X4_bar : plainFor yX4_bar = true := by decide +kernel
abbrev w_X4_bar1 : Cond := Cond.code yX4_bar1 cX4_bar1 3 (some .int)
theorem mi_X4_bar1 : gMi yX4_bar1 w_X4_bar1 3 2 := ⟨Or.inl ⟨_, _, rfl⟩, q2376, q80, by decide +kernel, by decide +kernel⟩
theorem pf_X4_bar1 : plainFor yX4_bar1 = true := by decide +kernel
abbrev w_X4_barOf : Cond := Cond.code yX4_barOf cX4_barOf 3 (some .int)
theorem mi_X4_barOf : gMi yX4_barOf w_X4_barOf 3 2 := ⟨Or.inl ⟨_, _, rfl⟩, q2368, q80, by decide +kernel, by decide +kernel⟩
theorem pf_X4_barOf : plainFor yX4_barOf = true := by decide +kernel
abbrev w_X4_barOf1 : Cond := Cond.code yX4_barOf1 cX4_barOf1 2 (some .int)
theorem mi_X4_barOf1 : gMi yX4_barOf1 w_X4_barOf1 2 1 := ⟨Or.inl ⟨_, _, rfl⟩, q2384, q80, by decide +kernel, by decide +kernel⟩
theorem pf_X4_barOf1 : plainFor yX4_barOf1 = true := by decide +kernel
abbrev w_X4_barOfCurtain : Cond := Cond.code yX4_barOfCurtain cX4_barOfCurtain 2 (some .int)
theorem mi_X4_barOfCurtain : gMi yX4_barOfCurtain w_X4_barOfCurtain 2 1 := ⟨Or.inl ⟨_, _, rfl⟩, q2430, q80, by decide +kernel, by decide +kernel⟩
theorem pf_X4_barOfCurtain : plainFor yX4_barOfCurtain = true := by decide +kernel
abbrev w_X4_bears : Cond := Cond.code yX4_bears cX4_bears 2 (some .int)
theorem mi_X4_bears : gMi yX4_bears w_X4_bears 2 1 := ⟨Or.inl ⟨_, _, rfl⟩, q2397, q80, by decide +kernel, by decide +kernel⟩
theorem pf_X4_bears : plainFor yX4_bears = true := by decide +kernel
abbrev w_X4_bestAgain : Cond := Cond.code yX4_bestAgain cX4_bestAgain 2 (some .int)
theorem mi_X4_bestAgain : gMi yX4_bestAgain w_X4_bestAgain 2 1 := ⟨Or.inl ⟨_, _, rfl⟩, q2482, q80, by decide +kernel, by decide +kernel⟩
theorem pf_X4_bestAgain : plainFor yX4_bestAgain = true := by decide +kernel
abbrev w_X4_bestBar : Cond := Cond.code yX4_bestBar cX4_bestBar 5 (some .int)
theorem mi_X4_bestBar : gMi yX4_bestBar w_X4_bestBar 5 1 := ⟨Or.inl ⟨_, _, rfl⟩, q2474, q80, by decide +kernel, by decide +kernel⟩
theorem pf_X4_bestBar : plainFor yX4_bestBar = true := by decide +kernel
abbrev w_X4_bestWeights : Cond := Cond.code yX4_bestWeights cX4_bestWeights 4 (some .int)
theorem mi_X4_bestWeights : gMi yX4_bestWeights w_X4_bestWeights 4 1 := ⟨Or.inl ⟨_, _, rfl⟩, q2470, q80, by decide +kernel, by decide +kernel⟩
theorem pf_X4_bestWeights : plainFor yX4_bestWeights = true := by decide +kernel
abbrev w_X4_character : Cond := Cond.code yX4_character cX4_character 2 (some .char)
theorem mi_X4_character : gMi yX4_character w_X4_character 2 1 := ⟨Or.inl ⟨_, _, rfl⟩, q2608, q80, by decide +kernel, by decide +kernel⟩
theorem pf_X4_character : plainFor yX4_character = true := by decide +kernel
abbrev w_X4_clear : Cond := Cond.code yX4_clear cX4_clear 2 (some .int)
theorem mi_X4_clear : gMi yX4_clear w_X4_clear 2 0 := ⟨Or.inl ⟨_, _, rfl⟩, q2336, q80, by decide +kernel, by decide +kernel⟩
theorem pf_X4_clear : plainFor yX4_clear = true := by decide +kernel
abbrev w_X4_cue : Cond := Cond.code yX4_cue cX4_cue 9 (some .int)
theorem mi_X4_cue : gMi yX4_cue w_X4_cue 9 4 := ⟨Or.inl ⟨_, _, rfl⟩, q2547, q80, by decide +kernel, by decide +kernel⟩
theorem pf_X4_cue : plainFor yX4_cue = true := by decide +kernel
abbrev w_X4_cue1 : Cond := Cond.code yX4_cue1 cX4_cue1 3 (some .int)
theorem mi_X4_cue1 : gMi yX4_cue1 w_X4_cue1 3 2 := ⟨Or.inl ⟨_, _, rfl⟩, q2551, q80, by decide +kernel, by decide +kernel⟩
theorem pf_X4_cue1 : plainFor yX4_cue1 = true := by decide +kernel
abbrev w_X4_cueLine : Cond := Cond.code yX4_cueLine cX4_cueLine 2 (some .int)
theorem mi_X4_cueLine : gMi yX4_cueLine w_X4_cueLine 2 0 := ⟨Or.inl ⟨_, _, rfl⟩, q2599, q80, by decide +kernel, by decide +kernel⟩
theorem pf_X4_cueLine : plainFor yX4_cueLine = true := by decide +kernel
abbrev w_X4_cueOf : Cond := Cond.code yX4_cueOf cX4_cueOf 3 (some .int)
theorem mi_X4_cueOf : gMi yX4_cueOf w_X4_cueOf 3 2 := ⟨Or.inl ⟨_, _, rfl⟩, q2555, q80, by decide +kernel, by decide +kernel⟩
theorem pf_X4_cueOf : plainFor yX4_cueOf = true := by decide +kernel
abbrev w_X4_curtain : Cond := Cond.code yX4_curtain cX4_curtain 3 (some .int)
theorem mi_X4_curtain : gMi yX4_curtain w_X4_curtain 3 1 := ⟨Or.inl ⟨_, _, rfl⟩, q2426, q80, by decide +kernel, by decide +kernel⟩
theorem pf_X4_curtain : plainFor yX4_curtain = true := by decide +kernel
abbrev w_X4_curtainOn : Cond := Cond.code yX4_curtainOn cX4_curtainOn 5 (some .int)
theorem mi_X4_curtainOn : gMi yX4_curtainOn w_X4_curtainOn 5 2 := ⟨Or.inl ⟨_, _, rfl⟩, q2438, q80, by decide +kernel, by decide +kernel⟩
theorem pf_X4_curtainOn : plainFor yX4_curtainOn = true := by decide +kernel
abbrev w_X4_curtainsOn : Cond := Cond.code yX4_curtainsOn cX4_curtainsOn 4 (some .int)
theorem mi_X4_curtainsOn : gMi yX4_curtainsOn w_X4_curtainsOn 4 1 := ⟨Or.inl ⟨_, _, rfl⟩, q2402, q80, by decide +kernel, by decide +kernel⟩
theorem pf_X4_curtainsOn : plainFor yX4_curtainsOn = true := by decide +kernel
abbrev w_X4_digit : Cond := Cond.code yX4_digit cX4_digit 1 (some .int)
theorem mi_X4_digit : gMi yX4_digit w_X4_digit 1 0 := ⟨Or.inl ⟨_, _, rfl⟩, q2656, q80, by decide +kernel, by decide +kernel⟩
theorem pf_X4_digit : plainFor yX4_digit = true := by decide +kernel
abbrev w_X4_doDoor : Cond := Cond.code yX4_doDoor cX4_doDoor 3 (some .int)
theorem mi_X4_doDoor : gMi yX4_doDoor w_X4_doDoor 3 2 := ⟨Or.inl ⟨_, _, rfl⟩, q2507, q80, by decide +kernel, by decide +kernel⟩
theorem pf_X4_doDoor : plainFor yX4_doDoor = true := by decide +kernel
abbrev w_X4_doDrop : Cond := Cond.code yX4_doDrop cX4_doDrop 3 (some .int)
theorem mi_X4_doDrop : gMi yX4_doDrop w_X4_doDrop 3 1 := ⟨Or.inl ⟨_, _, rfl⟩, q2454, q80, by decide +kernel, by decide +kernel⟩
theorem pf_X4_doDrop : plainFor yX4_doDrop = true := by decide +kernel
abbrev w_X4_doFly : Cond := Cond.code yX4_doFly cX4_doFly 3 (some .int)
theorem mi_X4_doFly : gMi yX4_doFly w_X4_doFly 3 2 := ⟨Or.inl ⟨_, _, rfl⟩, q2527, q80, by decide +kernel, by decide +kernel⟩
theorem pf_X4_doFly : plainFor yX4_doFly = true := by decide +kernel
abbrev w_X4_doGo : Cond := Cond.code yX4_doGo cX4_doGo 5 (some .int)
theorem mi_X4_doGo : gMi yX4_doGo w_X4_doGo 5 0 := ⟨Or.inl ⟨_, _, rfl⟩, q2571, q80, by decide +kernel, by decide +kernel⟩
theorem pf_X4_doGo : plainFor yX4_doGo = true := by decide +kernel
abbrev w_X4_doHang : Cond := Cond.code yX4_doHang cX4_doHang 3 (some .int)
theorem mi_X4_doHang : gMi yX4_doHang w_X4_doHang 3 2 := ⟨Or.inl ⟨_, _, rfl⟩, q2446, q80, by decide +kernel, by decide +kernel⟩
theorem pf_X4_doHang : plainFor yX4_doHang = true := by decide +kernel
abbrev w_X4_doWeights : Cond := Cond.code yX4_doWeights cX4_doWeights 5 (some .int)
theorem mi_X4_doWeights : gMi yX4_doWeights w_X4_doWeights 5 2 := ⟨Or.inl ⟨_, _, rfl⟩, q2462, q80, by decide +kernel, by decide +kernel⟩
theorem pf_X4_doWeights : plainFor yX4_doWeights = true := by decide +kernel
abbrev w_X4_doYear : Cond := Cond.code yX4_doYear cX4_doYear 4 (some .int)
theorem mi_X4_doYear : gMi yX4_doYear w_X4_doYear 4 1 := ⟨Or.inl ⟨_, _, rfl⟩, q2418, q80, by decide +kernel, by decide +kernel⟩
theorem pf_X4_doYear : plainFor yX4_doYear = true := by decide +kernel
abbrev w_X4_does : Cond := Cond.code yX4_does cX4_does 5 none
theorem mi_X4_does : gMi yX4_does w_X4_does 5 1 := ⟨Or.inl ⟨_, _, rfl⟩, q2668, q80, by decide +kernel, by decide +kernel⟩
theorem pf_X4_does : plainFor yX4_does = true := by decide +kernel
abbrev w_X4_door : Cond := Cond.code yX4_door cX4_door 3 (some .int)
theorem mi_X4_door : gMi yX4_door w_X4_door 3 2 := ⟨Or.inl ⟨_, _, rfl⟩, q2503, q80, by decide +kernel, by decide +kernel⟩
theorem pf_X4_door : plainFor yX4_door = true := by decide +kernel
abbrev w_X4_drop : Cond := Cond.code yX4_drop cX4_drop 2 (some .int)
theorem mi_X4_drop : gMi yX4_drop w_X4_drop 2 1 := ⟨Or.inl ⟨_, _, rfl⟩, q2450, q80, by decide +kernel, by decide +kernel⟩
theorem pf_X4_drop : plainFor yX4_drop = true := by decide +kernel
abbrev w_X4_empties : Cond := Cond.code yX4_empties cX4_empties 2 none
theorem mi_X4_empties : gMi yX4_empties w_X4_empties 2 0 := ⟨Or.inl ⟨_, _, rfl⟩, q2258, q80, by decide +kernel, by decide +kernel⟩
theorem pf_X4_empties : plainFor yX4_empties = true := by decide +kernel
abbrev w_X4_ends : Cond := Cond.code yX4_ends cX4_ends 2 (some .int)
theorem mi_X4_ends : gMi yX4_ends w_X4_ends 2 1 := ⟨Or.inl ⟨_, _, rfl⟩, q2356, q80, by decide +kernel, by decide +kernel⟩
theorem pf_X4_ends : plainFor yX4_ends = true := by decide +kernel
abbrev w_X4_errorPosition : Cond := Cond.code yX4_errorPosition cX4_errorPosition 1 (some .int)
theorem mi_X4_errorPosition : gMi yX4_errorPosition w_X4_errorPosition 1 0 := ⟨Or.inl ⟨_, _, rfl⟩, q2672, q80, by decide +kernel, by decide +kernel⟩
theorem pf_X4_errorPosition : plainFor yX4_errorPosition = true := by decide +kernel
abbrev w_X4_fails : Cond := Cond.code yX4_fails cX4_fails 2 (some .int)
theorem mi_X4_fails : gMi yX4_fails w_X4_fails 2 1 := ⟨Or.inl ⟨_, _, rfl⟩, q2352, q80, by decide +kernel, by decide +kernel⟩
theorem pf_X4_fails : plainFor yX4_fails = true := by decide +kernel
abbrev w_X4_flies : Cond := Cond.code yX4_flies cX4_flies 5 (some .int)
theorem mi_X4_flies : gMi yX4_flies w_X4_flies 5 2 := ⟨Or.inl ⟨_, _, rfl⟩, q2539, q80, by decide +kernel, by decide +kernel⟩
theorem pf_X4_flies : plainFor yX4_flies = true := by decide +kernel
abbrev w_X4_fly : Cond := Cond.code yX4_fly cX4_fly 3 (some .int)
theorem mi_X4_fly : gMi yX4_fly w_X4_fly 3 2 := ⟨Or.inl ⟨_, _, rfl⟩, q2523, q80, by decide +kernel, by decide +kernel⟩
theorem pf_X4_fly : plainFor yX4_fly = true := by decide +kernel
abbrev w_X4_go : Cond := Cond.code yX4_go cX4_go 1 (some .int)
theorem mi_X4_go : gMi yX4_go w_X4_go 1 0 := ⟨Or.inl ⟨_, _, rfl⟩, q2567, q80, by decide +kernel, by decide +kernel⟩
theorem pf_X4_go : plainFor yX4_go = true := by decide +kernel
abbrev w_X4_hand : Cond := Cond.code yX4_hand cX4_hand 4 (some .int)
theorem mi_X4_hand : gMi yX4_hand w_X4_hand 4 2 := ⟨Or.inl ⟨_, _, rfl⟩, q2487, q80, by decide +kernel, by decide +kernel⟩
theorem pf_X4_hand : plainFor yX4_hand = true := by decide +kernel
abbrev w_X4_hang : Cond := Cond.code yX4_hang cX4_hang 3 (some .int)
theorem mi_X4_hang : gMi yX4_hang w_X4_hang 3 2 := ⟨Or.inl ⟨_, _, rfl⟩, q2442, q80, by decide +kernel, by decide +kernel⟩
theorem pf_X4_hang : plainFor yX4_hang = true := by decide +kernel
abbrev w_X4_hanging : Cond := Cond.code yX4_hanging cX4_hanging 4 (some .int)
theorem mi_X4_hanging : gMi yX4_hanging w_X4_hanging 4 1 := ⟨Or.inl ⟨_, _, rfl⟩, q2616, q80, by decide +kernel, by decide +kernel⟩
theorem pf_X4_hanging : plainFor yX4_hanging = true := by decide +kernel
abbrev w_X4_in : Cond := Cond.code yX4_in cX4_in 3 (some .boolean)
theorem mi_X4_in : gMi yX4_in w_X4_in 3 3 := ⟨Or.inl ⟨_, _, rfl⟩, q2348, q80, by decide +kernel, by decide +kernel⟩
theorem pf_X4_in : plainFor yX4_in = true := by decide +kernel
abbrev w_X4_init : Cond := Cond.code yX4_init cX4_init 1 none
theorem mi_X4_init : gMi yX4_init w_X4_init 1 0 := ⟨Or.inl ⟨_, _, rfl⟩, q2243, q80, by decide +kernel, by decide +kernel⟩
theorem pf_X4_init : plainFor yX4_init = true := by decide +kernel
abbrev w_X4_isBar : Cond := Cond.code yX4_isBar cX4_isBar 2 (some .boolean)
theorem mi_X4_isBar : gMi yX4_isBar w_X4_isBar 2 1 := ⟨Or.inl ⟨_, _, rfl⟩, q2372, q80, by decide +kernel, by decide +kernel⟩
theorem pf_X4_isBar : plainFor yX4_isBar = true := by decide +kernel
abbrev w_X4_isCurtain : Cond := Cond.code yX4_isCurtain cX4_isCurtain 2 (some .boolean)
theorem mi_X4_isCurtain : gMi yX4_isCurtain w_X4_isCurtain 2 1 := ⟨Or.inl ⟨_, _, rfl⟩, q2434, q80, by decide +kernel, by decide +kernel⟩
theorem pf_X4_isCurtain : plainFor yX4_isCurtain = true := by decide +kernel
abbrev w_X4_isHere : Cond := Cond.code yX4_isHere cX4_isHere 3 (some .boolean)
theorem mi_X4_isHere : gMi yX4_isHere w_X4_isHere 3 2 := ⟨Or.inl ⟨_, _, rfl⟩, q2664, q80, by decide +kernel, by decide +kernel⟩
theorem pf_X4_isHere : plainFor yX4_isHere = true := by decide +kernel
abbrev w_X4_isRefused : Cond := Cond.code yX4_isRefused cX4_isRefused 5 (some .boolean)
theorem mi_X4_isRefused : gMi yX4_isRefused w_X4_isRefused 5 2 := ⟨Or.inl ⟨_, _, rfl⟩, q2531, q80, by decide +kernel, by decide +kernel⟩
theorem pf_X4_isRefused : plainFor yX4_isRefused = true := by decide +kernel
abbrev w_X4_keep : Cond := Cond.code yX4_keep cX4_keep 1 none
theorem mi_X4_keep : gMi yX4_keep w_X4_keep 1 0 := ⟨Or.inl ⟨_, _, rfl⟩, q2344, q80, by decide +kernel, by decide +kernel⟩
theorem pf_X4_keep : plainFor yX4_keep = true := by decide +kernel
abbrev w_X4_lacks : Cond := Cond.code yX4_lacks cX4_lacks 2 (some .int)
theorem mi_X4_lacks : gMi yX4_lacks w_X4_lacks 2 1 := ⟨Or.inl ⟨_, _, rfl⟩, q2422, q80, by decide +kernel, by decide +kernel⟩
theorem pf_X4_lacks : plainFor yX4_lacks = true := by decide +kernel
abbrev w_X4_line : Cond := Cond.code yX4_line cX4_line 3 (some .int)
theorem mi_X4_line : gMi yX4_line w_X4_line 3 1 := ⟨Or.inl ⟨_, _, rfl⟩, q2579, q80, by decide +kernel, by decide +kernel⟩
theorem pf_X4_line : plainFor yX4_line = true := by decide +kernel
abbrev w_X4_load : Cond := Cond.code yX4_load cX4_load 4 (some .int)
theorem mi_X4_load : gMi yX4_load w_X4_load 4 1 := ⟨Or.inl ⟨_, _, rfl⟩, q2380, q80, by decide +kernel, by decide +kernel⟩
theorem pf_X4_load : plainFor yX4_load = true := by decide +kernel
abbrev w_X4_loud : Cond := Cond.code yX4_loud cX4_loud 3 (some .int)
theorem mi_X4_loud : gMi yX4_loud w_X4_loud 3 2 := ⟨Or.inl ⟨_, _, rfl⟩, q2519, q80, by decide +kernel, by decide +kernel⟩
theorem pf_X4_loud : plainFor yX4_loud = true := by decide +kernel
abbrev w_X4_meanHeight : Cond := Cond.code yX4_meanHeight cX4_meanHeight 3 (some .double)
theorem mi_X4_meanHeight : gMi yX4_meanHeight w_X4_meanHeight 3 0 := ⟨Or.inl ⟨_, _, rfl⟩, q2628, q80, by decide +kernel, by decide +kernel⟩
theorem pf_X4_meanHeight : plainFor yX4_meanHeight = true := by decide +kernel
abbrev w_X4_move : Cond := Cond.code yX4_move cX4_move 3 (some .int)
theorem mi_X4_move : gMi yX4_move w_X4_move 3 2 := ⟨Or.inl ⟨_, _, rfl⟩, q2491, q80, by decide +kernel, by decide +kernel⟩
theorem pf_X4_move : plainFor yX4_move = true := by decide +kernel
abbrev w_X4_next : Cond := Cond.code yX4_next cX4_next 2 (some .int)
theorem mi_X4_next : gMi yX4_next w_X4_next 2 0 := ⟨Or.inl ⟨_, _, rfl⟩, q2563, q80, by decide +kernel, by decide +kernel⟩
theorem pf_X4_next : plainFor yX4_next = true := by decide +kernel
abbrev w_X4_nextLight : Cond := Cond.code yX4_nextLight cX4_nextLight 2 (some .int)
theorem mi_X4_nextLight : gMi yX4_nextLight w_X4_nextLight 2 0 := ⟨Or.inl ⟨_, _, rfl⟩, q2559, q80, by decide +kernel, by decide +kernel⟩
theorem pf_X4_nextLight : plainFor yX4_nextLight = true := by decide +kernel
abbrev w_X4_noise : Cond := Cond.code yX4_noise cX4_noise 4 (some .int)
theorem mi_X4_noise : gMi yX4_noise w_X4_noise 4 3 := ⟨Or.inl ⟨_, _, rfl⟩, q2515, q80, by decide +kernel, by decide +kernel⟩
theorem pf_X4_noise : plainFor yX4_noise = true := by decide +kernel
abbrev w_X4_number : Cond := Cond.code yX4_number cX4_number 2 (some .int)
theorem mi_X4_number : gMi yX4_number w_X4_number 2 0 := ⟨Or.inl ⟨_, _, rfl⟩, q2652, q80, by decide +kernel, by decide +kernel⟩
theorem pf_X4_number : plainFor yX4_number = true := by decide +kernel
abbrev w_X4_off : Cond := Cond.code yX4_off cX4_off 2 (some .int)
theorem mi_X4_off : gMi yX4_off w_X4_off 2 1 := ⟨Or.inl ⟨_, _, rfl⟩, q2392, q80, by decide +kernel, by decide +kernel⟩
theorem pf_X4_off : plainFor yX4_off = true := by decide +kernel
abbrev w_X4_offWith : Cond := Cond.code yX4_offWith cX4_offWith 4 (some .int)
theorem mi_X4_offWith : gMi yX4_offWith w_X4_offWith 4 2 := ⟨Or.inl ⟨_, _, rfl⟩, q2478, q80, by decide +kernel, by decide +kernel⟩
theorem pf_X4_offWith : plainFor yX4_offWith = true := by decide +kernel
abbrev w_X4_onBars : Cond := Cond.code yX4_onBars cX4_onBars 3 (some .int)
theorem mi_X4_onBars : gMi yX4_onBars w_X4_onBars 3 0 := ⟨Or.inl ⟨_, _, rfl⟩, q2466, q80, by decide +kernel, by decide +kernel⟩
theorem pf_X4_onBars : plainFor yX4_onBars = true := by decide +kernel
abbrev w_X4_openDoors : Cond := Cond.code yX4_openDoors cX4_openDoors 3 (some .int)
theorem mi_X4_openDoors : gMi yX4_openDoors w_X4_openDoors 3 0 := ⟨Or.inl ⟨_, _, rfl⟩, q2511, q80, by decide +kernel, by decide +kernel⟩
theorem pf_X4_openDoors : plainFor yX4_openDoors = true := by decide +kernel
abbrev w_X4_playable : Cond := Cond.code yX4_playable cX4_playable 5 (some .int)
theorem mi_X4_playable : gMi yX4_playable w_X4_playable 5 0 := ⟨Or.inl ⟨_, _, rfl⟩, q2575, q80, by decide +kernel, by decide +kernel⟩
theorem pf_X4_playable : plainFor yX4_playable = true := by decide +kernel
abbrev w_X4_read : Cond := Cond.code yX4_read cX4_read 2 (some .int)
theorem mi_X4_read : gMi yX4_read w_X4_read 2 0 := ⟨Or.inl ⟨_, _, rfl⟩, q2640, q80, by decide +kernel, by decide +kernel⟩
theorem pf_X4_read : plainFor yX4_read = true := by decide +kernel
abbrev w_X4_readItem : Cond := Cond.code yX4_readItem cX4_readItem 5 none
theorem mi_X4_readItem : gMi yX4_readItem w_X4_readItem 5 0 := ⟨Or.inl ⟨_, _, rfl⟩, q2644, q80, by decide +kernel, by decide +kernel⟩
theorem pf_X4_readItem : plainFor yX4_readItem = true := by decide +kernel
abbrev w_X4_refusal : Cond := Cond.code yX4_refusal cX4_refusal 2 (some .int)
theorem mi_X4_refusal : gMi yX4_refusal w_X4_refusal 2 1 := ⟨Or.inl ⟨_, _, rfl⟩, q2332, q80, by decide +kernel, by decide +kernel⟩
theorem pf_X4_refusal : plainFor yX4_refusal = true := by decide +kernel
abbrev w_X4_refuse : Cond := Cond.code yX4_refuse cX4_refuse 4 (some .int)
theorem mi_X4_refuse : gMi yX4_refuse w_X4_refuse 4 3 := ⟨Or.inl ⟨_, _, rfl⟩, q2410, q80, by decide +kernel, by decide +kernel⟩
theorem pf_X4_refuse : plainFor yX4_refuse = true := by decide +kernel
abbrev w_X4_refusedItem : Cond := Cond.code yX4_refusedItem cX4_refusedItem 1 (some .int)
theorem mi_X4_refusedItem : gMi yX4_refusedItem w_X4_refusedItem 1 0 := ⟨Or.inl ⟨_, _, rfl⟩, q2676, q80, by decide +kernel, by decide +kernel⟩
theorem pf_X4_refusedItem : plainFor yX4_refusedItem = true := by decide +kernel
abbrev w_X4_restore : Cond := Cond.code yX4_restore cX4_restore 1 (some .int)
theorem mi_X4_restore : gMi yX4_restore w_X4_restore 1 0 := ⟨Or.inl ⟨_, _, rfl⟩, q2688, q80, by decide +kernel, by decide +kernel⟩
theorem pf_X4_restore : plainFor yX4_restore = true := by decide +kernel
abbrev w_X4_rope : Cond := Cond.code yX4_rope cX4_rope 3 (some .int)
theorem mi_X4_rope : gMi yX4_rope w_X4_rope 3 1 := ⟨Or.inl ⟨_, _, rfl⟩, q2406, q80, by decide +kernel, by decide +kernel⟩
theorem pf_X4_rope : plainFor yX4_rope = true := by decide +kernel
abbrev w_X4_says : Cond := Cond.code yX4_says cX4_says 3 none
theorem mi_X4_says : gMi yX4_says w_X4_says 3 1 := ⟨Or.inl ⟨_, _, rfl⟩, q2588, q80, by decide +kernel, by decide +kernel⟩
theorem pf_X4_says : plainFor yX4_says = true := by decide +kernel
abbrev w_X4_saysNumber : Cond := Cond.code yX4_saysNumber cX4_saysNumber 2 none
theorem mi_X4_saysNumber : gMi yX4_saysNumber w_X4_saysNumber 2 1 := ⟨Or.inl ⟨_, _, rfl⟩, q2583, q80, by decide +kernel, by decide +kernel⟩
theorem pf_X4_saysNumber : plainFor yX4_saysNumber = true := by decide +kernel
abbrev w_X4_setBar : Cond := Cond.code yX4_setBar cX4_setBar 4 none
theorem mi_X4_setBar : gMi yX4_setBar w_X4_setBar 4 3 := ⟨Or.inl ⟨_, _, rfl⟩, q2364, q80, by decide +kernel, by decide +kernel⟩
theorem pf_X4_setBar : plainFor yX4_setBar = true := by decide +kernel
abbrev w_X4_sign : Cond := Cond.code yX4_sign cX4_sign 3 (some .int)
theorem mi_X4_sign : gMi yX4_sign w_X4_sign 3 2 := ⟨Or.inl ⟨_, _, rfl⟩, q2660, q80, by decide +kernel, by decide +kernel⟩
theorem pf_X4_sign : plainFor yX4_sign = true := by decide +kernel
abbrev w_X4_snapshot : Cond := Cond.code yX4_snapshot cX4_snapshot 1 (some .int)
theorem mi_X4_snapshot : gMi yX4_snapshot w_X4_snapshot 1 0 := ⟨Or.inl ⟨_, _, rfl⟩, q2684, q80, by decide +kernel, by decide +kernel⟩
theorem pf_X4_snapshot : plainFor yX4_snapshot = true := by decide +kernel
abbrev w_X4_storeAgain : Cond := Cond.code yX4_storeAgain cX4_storeAgain 1 (some .int)
theorem mi_X4_storeAgain : gMi yX4_storeAgain w_X4_storeAgain 1 0 := ⟨Or.inl ⟨_, _, rfl⟩, q2624, q80, by decide +kernel, by decide +kernel⟩
theorem pf_X4_storeAgain : plainFor yX4_storeAgain = true := by decide +kernel
abbrev w_X4_strength : Cond := Cond.code yX4_strength cX4_strength 2 (some .int)
theorem mi_X4_strength : gMi yX4_strength w_X4_strength 2 1 := ⟨Or.inl ⟨_, _, rfl⟩, q2499, q80, by decide +kernel, by decide +kernel⟩
theorem pf_X4_strength : plainFor yX4_strength = true := by decide +kernel
abbrev w_X4_strengthOf : Cond := Cond.code yX4_strengthOf cX4_strengthOf 4 (some .int)
theorem mi_X4_strengthOf : gMi yX4_strengthOf w_X4_strengthOf 4 1 := ⟨Or.inl ⟨_, _, rfl⟩, q2495, q80, by decide +kernel, by decide +kernel⟩
theorem pf_X4_strengthOf : plainFor yX4_strengthOf = true := by decide +kernel
abbrev w_X4_thrown : Cond := Cond.code yX4_thrown cX4_thrown 1 (some .int)
theorem mi_X4_thrown : gMi yX4_thrown w_X4_thrown 1 0 := ⟨Or.inl ⟨_, _, rfl⟩, q2328, q80, by decide +kernel, by decide +kernel⟩
theorem pf_X4_thrown : plainFor yX4_thrown = true := by decide +kernel
abbrev w_X4_told : Cond := Cond.code yX4_told cX4_told 3 (some .int)
theorem mi_X4_told : gMi yX4_told w_X4_told 3 1 := ⟨Or.inl ⟨_, _, rfl⟩, q2340, q80, by decide +kernel, by decide +kernel⟩
theorem pf_X4_told : plainFor yX4_told = true := by decide +kernel
abbrev w_X4_unbalanced : Cond := Cond.code yX4_unbalanced cX4_unbalanced 3 (some .int)
theorem mi_X4_unbalanced : gMi yX4_unbalanced w_X4_unbalanced 3 0 := ⟨Or.inl ⟨_, _, rfl⟩, q2620, q80, by decide +kernel, by decide +kernel⟩
theorem pf_X4_unbalanced : plainFor yX4_unbalanced = true := by decide +kernel
abbrev w_X4_undo : Cond := Cond.code yX4_undo cX4_undo 1 (some .int)
theorem mi_X4_undo : gMi yX4_undo w_X4_undo 1 0 := ⟨Or.inl ⟨_, _, rfl⟩, q2680, q80, by decide +kernel, by decide +kernel⟩
theorem pf_X4_undo : plainFor yX4_undo = true := by decide +kernel
abbrev w_X4_weightOf : Cond := Cond.code yX4_weightOf cX4_weightOf 2 (some .int)
theorem mi_X4_weightOf : gMi yX4_weightOf w_X4_weightOf 2 1 := ⟨Or.inl ⟨_, _, rfl⟩, q2388, q80, by decide +kernel, by decide +kernel⟩
theorem pf_X4_weightOf : plainFor yX4_weightOf = true := by decide +kernel
abbrev w_X4_weights : Cond := Cond.code yX4_weights cX4_weights 3 (some .int)
theorem mi_X4_weights : gMi yX4_weights w_X4_weights 3 2 := ⟨Or.inl ⟨_, _, rfl⟩, q2458, q80, by decide +kernel, by decide +kernel⟩
theorem pf_X4_weights : plainFor yX4_weights = true := by decide +kernel
abbrev w_X4_whyNot : Cond := Cond.code yX4_whyNot cX4_whyNot 2 (some .int)
theorem mi_X4_whyNot : gMi yX4_whyNot w_X4_whyNot 2 1 := ⟨Or.inl ⟨_, _, rfl⟩, q2535, q80, by decide +kernel, by decide +kernel⟩
theorem pf_X4_whyNot : plainFor yX4_whyNot = true := by decide +kernel
abbrev w_X4_wouldRefuse : Cond := Cond.code yX4_wouldRefuse cX4_wouldRefuse 2 (some .int)
theorem mi_X4_wouldRefuse : gMi yX4_wouldRefuse w_X4_wouldRefuse 2 1 := ⟨Or.inl ⟨_, _, rfl⟩, q2543, q80, by decide +kernel, by decide +kernel⟩
theorem pf_X4_wouldRefuse : plainFor yX4_wouldRefuse = true := by decide +kernel
abbrev w_X4_year : Cond := Cond.code yX4_year cX4_year 2 (some .int)
theorem mi_X4_year : gMi yX4_year w_X4_year 2 1 := ⟨Or.inl ⟨_, _, rfl⟩, q2414, q80, by decide +kernel, by decide +kernel⟩
theorem pf_X4_year : plainFor yX4_year = true := by decide +kernel
abbrev w_X5_bears : Cond := Cond.code yX5_bears cX5_bears 1 (some .int)
theorem mi_X5_bears : gMi yX5_bears w_X5_bears 1 0 := ⟨Or.inl ⟨_, _, rfl⟩, q1196, q88, by decide +kernel, by decide +kernel⟩
theorem pf_X5_bears : plainFor yX5_bears = true := by decide +kernel
abbrev w_X5_bestWeights : Cond := Cond.code yX5_bestWeights cX5_bestWeights 3 (some .int)
theorem mi_X5_bestWeights : gMi yX5_bestWeights w_X5_bestWeights 3 0 := ⟨Or.inl ⟨_, _, rfl⟩, q1772, q88, by decide +kernel, by decide +kernel⟩
theorem pf_X5_bestWeights : plainFor yX5_bestWeights = true := by decide +kernel
abbrev w_X5_carries : Cond := Cond.code yX5_carries cX5_carries 3 none
theorem mi_X5_carries : gMi yX5_carries w_X5_carries 3 2 := ⟨Or.inl ⟨_, _, rfl⟩, q1484, q88, by decide +kernel, by decide +kernel⟩
theorem pf_X5_carries : plainFor yX5_carries = true := by decide +kernel
abbrev w_X5_checkLow : Cond := Cond.code yX5_checkLow cX5_checkLow 1 none
theorem mi_X5_checkLow : gMi yX5_checkLow w_X5_checkLow 1 0 := ⟨Or.inl ⟨_, _, rfl⟩, q1479, q88, by decide +kernel, by decide +kernel⟩
theorem pf_X5_checkLow : plainFor yX5_checkLow = true := by decide +kernel
abbrev w_X5_copy : Cond := Cond.code yX5_copy cX5_copy 1 (some (.object "CurtainRiggers$Numbered"))
theorem mi_X5_copy : gMi yX5_copy w_X5_copy 1 0 := ⟨Or.inl ⟨_, _, rfl⟩, q518, q88, by decide +kernel, by decide +kernel⟩
theorem pf_X5_copy : plainFor yX5_copy = true := by decide +kernel
abbrev w_X5_copy_2 : Cond := Cond.code yX5_copy_2 cX5_copy_2 2 (some (.object "CurtainRiggers$Bar"))
theorem mi_X5_copy_2 : gMi yX5_copy_2 w_X5_copy_2 2 0 := ⟨Or.inl ⟨_, _, rfl⟩, q522, q88, by decide +kernel, by decide +kernel⟩
theorem pf_X5_copy_2 : plainFor yX5_copy_2 = true := by decide +kernel
abbrev w_X5_floor : Cond := Cond.code yX5_floor cX5_floor 1 (some .int)
theorem mi_X5_floor : gMi yX5_floor w_X5_floor 1 0 := ⟨Or.inl ⟨_, _, rfl⟩, q1201, q88, by decide +kernel, by decide +kernel⟩
theorem pf_X5_floor : plainFor yX5_floor = true := by decide +kernel
abbrev w_X5_init : Cond := Cond.code yX5_init cX5_init 2 none
theorem mi_X5_init : gMi yX5_init w_X5_init 2 1 := ⟨Or.inl ⟨_, _, rfl⟩, q527, q88, by decide +kernel, by decide +kernel⟩
theorem pf_X5_init : plainFor yX5_init = true := by decide +kernel
abbrev w_X5_number : Cond := Cond.code yX5_number cX5_number 1 (some .int)
theorem mi_X5_number : gMi yX5_number w_X5_number 1 0 := ⟨Or.inl ⟨_, _, rfl⟩, q785, q88, by decide +kernel, by decide +kernel⟩
theorem pf_X5_number : plainFor yX5_number = true := by decide +kernel
abbrev w_X5_onRope : Cond := Cond.code yX5_onRope cX5_onRope 1 (some .int)
theorem mi_X5_onRope : gMi yX5_onRope w_X5_onRope 1 0 := ⟨Or.inl ⟨_, _, rfl⟩, q1192, q88, by decide +kernel, by decide +kernel⟩
theorem pf_X5_onRope : plainFor yX5_onRope = true := by decide +kernel
abbrev w_X5_outBy : Cond := Cond.code yX5_outBy cX5_outBy 3 (some .int)
theorem mi_X5_outBy : gMi yX5_outBy w_X5_outBy 3 2 := ⟨Or.inl ⟨_, _, rfl⟩, q1128, q88, by decide +kernel, by decide +kernel⟩
theorem pf_X5_outBy : plainFor yX5_outBy = true := by decide +kernel
abbrev w_X5_outBy_2 : Cond := Cond.code yX5_outBy_2 cX5_outBy_2 1 (some .int)
theorem mi_X5_outBy_2 : gMi yX5_outBy_2 w_X5_outBy_2 1 0 := ⟨Or.inl ⟨_, _, rfl⟩, q1187, q88, by decide +kernel, by decide +kernel⟩
theorem pf_X5_outBy_2 : plainFor yX5_outBy_2 = true := by decide +kernel
abbrev w_X6_copy : Cond := Cond.code yX6_copy cX6_copy 1 (some (.object "CurtainRiggers$Numbered"))
theorem mi_X6_copy : gMi yX6_copy w_X6_copy 1 0 := ⟨Or.inl ⟨_, _, rfl⟩, q586, q89, by decide +kernel, by decide +kernel⟩
theorem pf_X6_copy : plainFor yX6_copy = true := by decide +kernel
abbrev w_X6_copy_2 : Cond := Cond.code yX6_copy_2 cX6_copy_2 2 (some (.object "CurtainRiggers$Curtain"))
theorem mi_X6_copy_2 : gMi yX6_copy_2 w_X6_copy_2 2 0 := ⟨Or.inl ⟨_, _, rfl⟩, q590, q89, by decide +kernel, by decide +kernel⟩
theorem pf_X6_copy_2 : plainFor yX6_copy_2 = true := by decide +kernel
abbrev w_X6_init : Cond := Cond.code yX6_init cX6_init 3 none
theorem mi_X6_init : gMi yX6_init w_X6_init 3 2 := ⟨Or.inl ⟨_, _, rfl⟩, q595, q89, by decide +kernel, by decide +kernel⟩
theorem pf_X6_init : plainFor yX6_init = true := by decide +kernel
abbrev w_X6_number : Cond := Cond.code yX6_number cX6_number 1 (some .int)
theorem mi_X6_number : gMi yX6_number w_X6_number 1 0 := ⟨Or.inl ⟨_, _, rfl⟩, q795, q89, by decide +kernel, by decide +kernel⟩
theorem pf_X6_number : plainFor yX6_number = true := by decide +kernel
abbrev w_X7_copy : Cond := Cond.code yX7_copy cX7_copy 1 (some (.object "CurtainRiggers$Numbered"))
theorem mi_X7_copy : gMi yX7_copy w_X7_copy 1 0 := ⟨Or.inl ⟨_, _, rfl⟩, q620, q90, by decide +kernel, by decide +kernel⟩
theorem pf_X7_copy : plainFor yX7_copy = true := by decide +kernel
abbrev w_X7_copy_2 : Cond := Cond.code yX7_copy_2 cX7_copy_2 1 (some (.object "CurtainRiggers$Hand"))
theorem mi_X7_copy_2 : gMi yX7_copy_2 w_X7_copy_2 1 0 := ⟨Or.inl ⟨_, _, rfl⟩, q624, q90, by decide +kernel, by decide +kernel⟩
theorem pf_X7_copy_2 : plainFor yX7_copy_2 = true := by decide +kernel
abbrev w_X7_init : Cond := Cond.code yX7_init cX7_init 4 none
theorem mi_X7_init : gMi yX7_init w_X7_init 4 3 := ⟨Or.inl ⟨_, _, rfl⟩, q629, q90, by decide +kernel, by decide +kernel⟩
theorem pf_X7_init : plainFor yX7_init = true := by decide +kernel
abbrev w_X7_number : Cond := Cond.code yX7_number cX7_number 1 (some .int)
theorem mi_X7_number : gMi yX7_number w_X7_number 1 0 := ⟨Or.inl ⟨_, _, rfl⟩, q800, q90, by decide +kernel, by decide +kernel⟩
theorem pf_X7_number : plainFor yX7_number = true := by decide +kernel
abbrev w_X8_init : Cond := Cond.code yX8_init cX8_init 4 none
theorem mi_X8_init : gMi yX8_init w_X8_init 4 3 := ⟨Or.inl ⟨_, _, rfl⟩, q1348, q95, by decide +kernel, by decide +kernel⟩
theorem pf_X8_init : plainFor yX8_init = true := by decide +kernel
abbrev w_X8_make : Cond := Cond.code yX8_make cX8_make 4 (some .int)
theorem mi_X8_make : gMi yX8_make w_X8_make 4 1 := ⟨Or.inl ⟨_, _, rfl⟩, q1363, q95, by decide +kernel, by decide +kernel⟩
theorem pf_X8_make : plainFor yX8_make = true := by decide +kernel
abbrev w_X9_checked : Cond := Cond.code yX9_checked cX9_checked 2 (some (.object "CurtainRiggers$Numbered"))
theorem mi_X9_checked : gMi yX9_checked w_X9_checked 2 2 := ⟨Or.inl ⟨_, _, rfl⟩, q1457, q100, by decide +kernel, by decide +kernel⟩
theorem pf_X9_checked : plainFor yX9_checked = true := by decide +kernel
abbrev w_X9_isAheadByNumber : Cond := Cond.code yX9_isAheadByNumber cX9_isAheadByNumber 2 (some .boolean)
theorem mi_X9_isAheadByNumber : gMi yX9_isAheadByNumber w_X9_isAheadByNumber 2 1 := ⟨Or.inl ⟨_, _, rfl⟩, q776, q100, by decide +kernel, by decide +kernel⟩
theorem pf_X9_isAheadByNumber : plainFor yX9_isAheadByNumber = true := by decide +kernel
abbrev w_X9_numberOf : Cond := Cond.code yX9_numberOf cX9_numberOf 1 (some .int)
theorem mi_X9_numberOf : gMi yX9_numberOf w_X9_numberOf 1 1 := ⟨Or.inl ⟨_, _, rfl⟩, q1802, q100, by decide +kernel, by decide +kernel⟩
theorem pf_X9_numberOf : plainFor yX9_numberOf = true := by decide +kernel
