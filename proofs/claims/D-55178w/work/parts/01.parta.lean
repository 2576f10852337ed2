-- ===== PART A: goes FIRST, ahead of the names: the tables' words, and 'selects' of the private methods out of them =====
/-- a private method of a class that the tables say can be made, by its rows of tables_1 -/
def lw_okq (q : MethodName × Nat) : Prop := (q.1.cls ≠ "java/lang/invoke/MethodHandle" ∧ q.1.cls ≠ "java/lang/invoke/VarHandle") ∧ Cond.instantiable q.1.cls q.2 ∈ tables_1 ∧ Cond.privateMethod q.1 ∈ tables_1 ∧ Cond.instanceMethod q.1 ∈ tables_1
set_option maxRecDepth 100000
theorem lw_t1 {w : Cond} (h : w ∈ tables_1_1) : w ∈ tables_1 := List.mem_append_left _ h
theorem lw_t2 {w : Cond} (h : w ∈ tables_1_2) : w ∈ tables_1 := List.mem_append_right _ (List.mem_append_left _ h)
theorem lw_t3 {w : Cond} (h : w ∈ tables_1_3) : w ∈ tables_1 := List.mem_append_right _ (List.mem_append_right _ (List.mem_append_left _ h))
theorem lw_t4 {w : Cond} (h : w ∈ tables_1_4) : w ∈ tables_1 := List.mem_append_right _ (List.mem_append_right _ (List.mem_append_right _ (List.mem_append_left _ h)))
theorem lw_t5 {w : Cond} (h : w ∈ tables_1_5) : w ∈ tables_1 := List.mem_append_right _ (List.mem_append_right _ (List.mem_append_right _ (List.mem_append_right _ (List.mem_append_left _ h))))
theorem lw_t6 {w : Cond} (h : w ∈ tables_1_6) : w ∈ tables_1 := List.mem_append_right _ (List.mem_append_right _ (List.mem_append_right _ (List.mem_append_right _ (List.mem_append_right _ (List.mem_append_left _ h)))))
theorem lw_t7 {w : Cond} (h : w ∈ tables_1_7) : w ∈ tables_1 := List.mem_append_right _ (List.mem_append_right _ (List.mem_append_right _ (List.mem_append_right _ (List.mem_append_right _ (List.mem_append_right _ (List.mem_append_left _ h))))))
theorem lw_t8 {w : Cond} (h : w ∈ tables_1_8) : w ∈ tables_1 := List.mem_append_right _ (List.mem_append_right _ (List.mem_append_right _ (List.mem_append_right _ (List.mem_append_right _ (List.mem_append_right _ (List.mem_append_right _ (List.mem_append_left _ h)))))))
theorem lw_t9 {w : Cond} (h : w ∈ tables_1_9) : w ∈ tables_1 := List.mem_append_right _ (List.mem_append_right _ (List.mem_append_right _ (List.mem_append_right _ (List.mem_append_right _ (List.mem_append_right _ (List.mem_append_right _ (List.mem_append_right _ (List.mem_append_left _ h))))))))
theorem lw_t10 {w : Cond} (h : w ∈ tables_1_10) : w ∈ tables_1 := List.mem_append_right _ (List.mem_append_right _ (List.mem_append_right _ (List.mem_append_right _ (List.mem_append_right _ (List.mem_append_right _ (List.mem_append_right _ (List.mem_append_right _ (List.mem_append_right _ (List.mem_append_left _ h)))))))))
theorem lw_t11 {w : Cond} (h : w ∈ tables_1_11) : w ∈ tables_1 := List.mem_append_right _ (List.mem_append_right _ (List.mem_append_right _ (List.mem_append_right _ (List.mem_append_right _ (List.mem_append_right _ (List.mem_append_right _ (List.mem_append_right _ (List.mem_append_right _ (List.mem_append_right _ (List.mem_append_left _ h))))))))))
theorem lw_t12 {w : Cond} (h : w ∈ tables_1_12) : w ∈ tables_1 := List.mem_append_right _ (List.mem_append_right _ (List.mem_append_right _ (List.mem_append_right _ (List.mem_append_right _ (List.mem_append_right _ (List.mem_append_right _ (List.mem_append_right _ (List.mem_append_right _ (List.mem_append_right _ (List.mem_append_right _ h))))))))))
theorem lw_p0 : lw_okq (⟨"java/lang/Throwable", "fillInStackTrace", "(I)Ljava/lang/Throwable;"⟩, 6) := ⟨⟨by decide +kernel, by decide +kernel⟩, lw_t2 (List.mem_of_getElem? (i := 158) rfl), lw_t2 (List.mem_of_getElem? (i := 156) rfl), lw_t2 (List.mem_of_getElem? (i := 157) rfl)⟩
theorem lw_p1 : lw_okq (⟨"java/util/ArrayList", "add", "(Ljava/lang/Object;[Ljava/lang/Object;I)V"⟩, 3) := ⟨⟨by decide +kernel, by decide +kernel⟩, lw_t1 (List.mem_of_getElem? (i := 71) rfl), lw_t3 (List.mem_of_getElem? (i := 101) rfl), lw_t3 (List.mem_of_getElem? (i := 102) rfl)⟩
theorem lw_p2 : lw_okq (⟨"java/util/ArrayList", "grow", "()[Ljava/lang/Object;"⟩, 3) := ⟨⟨by decide +kernel, by decide +kernel⟩, lw_t1 (List.mem_of_getElem? (i := 71) rfl), lw_t3 (List.mem_of_getElem? (i := 105) rfl), lw_t3 (List.mem_of_getElem? (i := 106) rfl)⟩
theorem lw_p3 : lw_okq (⟨"java/util/ArrayList", "grow", "(I)[Ljava/lang/Object;"⟩, 3) := ⟨⟨by decide +kernel, by decide +kernel⟩, lw_t1 (List.mem_of_getElem? (i := 71) rfl), lw_t3 (List.mem_of_getElem? (i := 109) rfl), lw_t3 (List.mem_of_getElem? (i := 110) rfl)⟩
theorem lw_p4 : lw_okq (⟨"java/util/ArrayList", "rangeCheckForAdd", "(I)V"⟩, 3) := ⟨⟨by decide +kernel, by decide +kernel⟩, lw_t1 (List.mem_of_getElem? (i := 71) rfl), lw_t4 (List.mem_of_getElem? (i := 18) rfl), lw_t4 (List.mem_of_getElem? (i := 19) rfl)⟩
theorem lw_p5 : lw_okq (⟨"java/util/ArrayList", "outOfBoundsMsg", "(I)Ljava/lang/String;"⟩, 3) := ⟨⟨by decide +kernel, by decide +kernel⟩, lw_t1 (List.mem_of_getElem? (i := 71) rfl), lw_t4 (List.mem_of_getElem? (i := 31) rfl), lw_t4 (List.mem_of_getElem? (i := 32) rfl)⟩
theorem lw_p6 : lw_okq (⟨"CurtainRiggers$ByBalance", "outBy", "(LCurtainRiggers$Bar;)I"⟩, 1) := ⟨⟨by decide +kernel, by decide +kernel⟩, lw_t5 (List.mem_of_getElem? (i := 95) rfl), lw_t5 (List.mem_of_getElem? (i := 93) rfl), lw_t5 (List.mem_of_getElem? (i := 94) rfl)⟩
theorem lw_p7 : lw_okq (⟨"CurtainRiggers$Theatre", "checkFlight", "(LCurtainRiggers$Bar;)V"⟩, 12) := ⟨⟨by decide +kernel, by decide +kernel⟩, lw_t1 (List.mem_of_getElem? (i := 59) rfl), lw_t5 (List.mem_of_getElem? (i := 153) rfl), lw_t5 (List.mem_of_getElem? (i := 154) rfl)⟩
theorem lw_p8 : lw_okq (⟨"CurtainRiggers$Theatre", "lift", "(LCurtainRiggers$Bar;I)I"⟩, 12) := ⟨⟨by decide +kernel, by decide +kernel⟩, lw_t1 (List.mem_of_getElem? (i := 59) rfl), lw_t5 (List.mem_of_getElem? (i := 236) rfl), lw_t5 (List.mem_of_getElem? (i := 237) rfl)⟩
theorem lw_p9 : lw_okq (⟨"CurtainRiggers", "change", "(Ljava/lang/String;II)I"⟩, 8) := ⟨⟨by decide +kernel, by decide +kernel⟩, lw_t1 (List.mem_of_getElem? (i := 51) rfl), lw_t6 (List.mem_of_getElem? (i := 71) rfl), lw_t6 (List.mem_of_getElem? (i := 72) rfl)⟩
theorem lw_p10 : lw_okq (⟨"CurtainRiggers", "become", "(LCurtainRiggers$Theatre;)V"⟩, 8) := ⟨⟨by decide +kernel, by decide +kernel⟩, lw_t1 (List.mem_of_getElem? (i := 51) rfl), lw_t7 (List.mem_of_getElem? (i := 99) rfl), lw_t7 (List.mem_of_getElem? (i := 100) rfl)⟩
theorem lw_p11 : lw_okq (⟨"java/util/ArrayDeque", "grow", "(I)V"⟩, 3) := ⟨⟨by decide +kernel, by decide +kernel⟩, lw_t1 (List.mem_of_getElem? (i := 157) rfl), lw_t7 (List.mem_of_getElem? (i := 122) rfl), lw_t7 (List.mem_of_getElem? (i := 123) rfl)⟩
theorem lw_p12 : lw_okq (⟨"java/util/ArrayDeque", "newCapacity", "(II)I"⟩, 3) := ⟨⟨by decide +kernel, by decide +kernel⟩, lw_t1 (List.mem_of_getElem? (i := 157) rfl), lw_t7 (List.mem_of_getElem? (i := 127) rfl), lw_t7 (List.mem_of_getElem? (i := 128) rfl)⟩
theorem lw_p13 : lw_okq (⟨"CurtainRiggers$Theatre", "low", "()Ljava/util/ArrayList;"⟩, 12) := ⟨⟨by decide +kernel, by decide +kernel⟩, lw_t1 (List.mem_of_getElem? (i := 59) rfl), lw_t8 (List.mem_of_getElem? (i := 37) rfl), lw_t8 (List.mem_of_getElem? (i := 38) rfl)⟩
theorem lw_p14 : lw_okq (⟨"CurtainRiggers$Theatre", "cueWith", "(I)LCurtainRiggers$Cue;"⟩, 12) := ⟨⟨by decide +kernel, by decide +kernel⟩, lw_t1 (List.mem_of_getElem? (i := 59) rfl), lw_t8 (List.mem_of_getElem? (i := 179) rfl), lw_t8 (List.mem_of_getElem? (i := 180) rfl)⟩
theorem lw_p15 : lw_okq (⟨"CurtainRiggers", "takeItems", "()Ljava/util/ArrayList;"⟩, 8) := ⟨⟨by decide +kernel, by decide +kernel⟩, lw_t1 (List.mem_of_getElem? (i := 51) rfl), lw_t9 (List.mem_of_getElem? (i := 82) rfl), lw_t9 (List.mem_of_getElem? (i := 83) rfl)⟩
def lw_privs_1 : List (MethodName × Nat) := [(⟨"java/lang/Throwable", "fillInStackTrace", "(I)Ljava/lang/Throwable;"⟩, 6), (⟨"java/util/ArrayList", "add", "(Ljava/lang/Object;[Ljava/lang/Object;I)V"⟩, 3), (⟨"java/util/ArrayList", "grow", "()[Ljava/lang/Object;"⟩, 3), (⟨"java/util/ArrayList", "grow", "(I)[Ljava/lang/Object;"⟩, 3), (⟨"java/util/ArrayList", "rangeCheckForAdd", "(I)V"⟩, 3), (⟨"java/util/ArrayList", "outOfBoundsMsg", "(I)Ljava/lang/String;"⟩, 3), (⟨"CurtainRiggers$ByBalance", "outBy", "(LCurtainRiggers$Bar;)I"⟩, 1), (⟨"CurtainRiggers$Theatre", "checkFlight", "(LCurtainRiggers$Bar;)V"⟩, 12), (⟨"CurtainRiggers$Theatre", "lift", "(LCurtainRiggers$Bar;I)I"⟩, 12), (⟨"CurtainRiggers", "change", "(Ljava/lang/String;II)I"⟩, 8), (⟨"CurtainRiggers", "become", "(LCurtainRiggers$Theatre;)V"⟩, 8), (⟨"java/util/ArrayDeque", "grow", "(I)V"⟩, 3), (⟨"java/util/ArrayDeque", "newCapacity", "(II)I"⟩, 3), (⟨"CurtainRiggers$Theatre", "low", "()Ljava/util/ArrayList;"⟩, 12), (⟨"CurtainRiggers$Theatre", "cueWith", "(I)LCurtainRiggers$Cue;"⟩, 12), (⟨"CurtainRiggers", "takeItems", "()Ljava/util/ArrayList;"⟩, 8)]
theorem lw_r1 : ∀ q ∈ lw_privs_1, lw_okq q := List.forall_mem_cons.mpr ⟨lw_p0, List.forall_mem_cons.mpr ⟨lw_p1, List.forall_mem_cons.mpr ⟨lw_p2, List.forall_mem_cons.mpr ⟨lw_p3, List.forall_mem_cons.mpr ⟨lw_p4, List.forall_mem_cons.mpr ⟨lw_p5, List.forall_mem_cons.mpr ⟨lw_p6, List.forall_mem_cons.mpr ⟨lw_p7, List.forall_mem_cons.mpr ⟨lw_p8, List.forall_mem_cons.mpr ⟨lw_p9, List.forall_mem_cons.mpr ⟨lw_p10, List.forall_mem_cons.mpr ⟨lw_p11, List.forall_mem_cons.mpr ⟨lw_p12, List.forall_mem_cons.mpr ⟨lw_p13, List.forall_mem_cons.mpr ⟨lw_p14, List.forall_mem_cons.mpr ⟨lw_p15, fun _ h => absurd h List.not_mem_nil⟩⟩⟩⟩⟩⟩⟩⟩⟩⟩⟩⟩⟩⟩⟩⟩
theorem lw_p16 : lw_okq (⟨"CurtainRiggers$Parser", "item", "()LCurtainRiggers$Change;"⟩, 2) := ⟨⟨by decide +kernel, by decide +kernel⟩, lw_t9 (List.mem_of_getElem? (i := 87) rfl), lw_t9 (List.mem_of_getElem? (i := 106) rfl), lw_t9 (List.mem_of_getElem? (i := 107) rfl)⟩
theorem lw_p17 : lw_okq (⟨"CurtainRiggers$Parser", "word", "([Ljava/lang/String;)Ljava/lang/String;"⟩, 2) := ⟨⟨by decide +kernel, by decide +kernel⟩, lw_t9 (List.mem_of_getElem? (i := 87) rfl), lw_t9 (List.mem_of_getElem? (i := 121) rfl), lw_t9 (List.mem_of_getElem? (i := 122) rfl)⟩
theorem lw_p18 : lw_okq (⟨"CurtainRiggers$Parser", "common", "(Ljava/lang/String;)I"⟩, 2) := ⟨⟨by decide +kernel, by decide +kernel⟩, lw_t9 (List.mem_of_getElem? (i := 87) rfl), lw_t9 (List.mem_of_getElem? (i := 125) rfl), lw_t9 (List.mem_of_getElem? (i := 126) rfl)⟩
theorem lw_p19 : lw_okq (⟨"CurtainRiggers$Parser", "number", "()I"⟩, 2) := ⟨⟨by decide +kernel, by decide +kernel⟩, lw_t9 (List.mem_of_getElem? (i := 87) rfl), lw_t9 (List.mem_of_getElem? (i := 185) rfl), lw_t9 (List.mem_of_getElem? (i := 186) rfl)⟩
theorem lw_p20 : lw_okq (⟨"CurtainRiggers$Parser", "digit", "()I"⟩, 2) := ⟨⟨by decide +kernel, by decide +kernel⟩, lw_t9 (List.mem_of_getElem? (i := 87) rfl), lw_t9 (List.mem_of_getElem? (i := 189) rfl), lw_t9 (List.mem_of_getElem? (i := 190) rfl)⟩
theorem lw_p21 : lw_okq (⟨"CurtainRiggers$Parser", "take", "(II)I"⟩, 2) := ⟨⟨by decide +kernel, by decide +kernel⟩, lw_t9 (List.mem_of_getElem? (i := 87) rfl), lw_t9 (List.mem_of_getElem? (i := 193) rfl), lw_t9 (List.mem_of_getElem? (i := 194) rfl)⟩
theorem lw_p22 : lw_okq (⟨"CurtainRiggers$Parser", "isNext", "(II)Z"⟩, 2) := ⟨⟨by decide +kernel, by decide +kernel⟩, lw_t9 (List.mem_of_getElem? (i := 87) rfl), lw_t9 (List.mem_of_getElem? (i := 197) rfl), lw_t9 (List.mem_of_getElem? (i := 198) rfl)⟩
theorem lw_p23 : lw_okq (⟨"CurtainRiggers$Parser", "behindBlank", "(Z)I"⟩, 2) := ⟨⟨by decide +kernel, by decide +kernel⟩, lw_t9 (List.mem_of_getElem? (i := 87) rfl), lw_t9 (List.mem_of_getElem? (i := 202) rfl), lw_t9 (List.mem_of_getElem? (i := 203) rfl)⟩
theorem lw_p24 : lw_okq (⟨"CurtainRiggersModel", "empties", "()V"⟩, 21) := ⟨⟨by decide +kernel, by decide +kernel⟩, lw_t10 (List.mem_of_getElem? (i := 12) rfl), lw_t10 (List.mem_of_getElem? (i := 28) rfl), lw_t10 (List.mem_of_getElem? (i := 29) rfl)⟩
theorem lw_p25 : lw_okq (⟨"CurtainRiggersModel", "keep", "()V"⟩, 21) := ⟨⟨by decide +kernel, by decide +kernel⟩, lw_t10 (List.mem_of_getElem? (i := 12) rfl), lw_t10 (List.mem_of_getElem? (i := 114) rfl), lw_t10 (List.mem_of_getElem? (i := 115) rfl)⟩
theorem lw_p26 : lw_okq (⟨"CurtainRiggersModel", "fails", "(I)I"⟩, 21) := ⟨⟨by decide +kernel, by decide +kernel⟩, lw_t10 (List.mem_of_getElem? (i := 12) rfl), lw_t10 (List.mem_of_getElem? (i := 122) rfl), lw_t10 (List.mem_of_getElem? (i := 123) rfl)⟩
theorem lw_p27 : lw_okq (⟨"CurtainRiggersModel", "ends", "(I)I"⟩, 21) := ⟨⟨by decide +kernel, by decide +kernel⟩, lw_t10 (List.mem_of_getElem? (i := 12) rfl), lw_t10 (List.mem_of_getElem? (i := 126) rfl), lw_t10 (List.mem_of_getElem? (i := 127) rfl)⟩
theorem lw_p28 : lw_okq (⟨"CurtainRiggersModel", "setBar", "(III)V"⟩, 21) := ⟨⟨by decide +kernel, by decide +kernel⟩, lw_t10 (List.mem_of_getElem? (i := 12) rfl), lw_t10 (List.mem_of_getElem? (i := 134) rfl), lw_t10 (List.mem_of_getElem? (i := 135) rfl)⟩
theorem lw_p29 : lw_okq (⟨"CurtainRiggersModel", "isBar", "(I)Z"⟩, 21) := ⟨⟨by decide +kernel, by decide +kernel⟩, lw_t10 (List.mem_of_getElem? (i := 12) rfl), lw_t10 (List.mem_of_getElem? (i := 142) rfl), lw_t10 (List.mem_of_getElem? (i := 143) rfl)⟩
theorem lw_p30 : lw_okq (⟨"CurtainRiggersModel", "bar1", "(II)I"⟩, 21) := ⟨⟨by decide +kernel, by decide +kernel⟩, lw_t10 (List.mem_of_getElem? (i := 12) rfl), lw_t10 (List.mem_of_getElem? (i := 146) rfl), lw_t10 (List.mem_of_getElem? (i := 147) rfl)⟩
theorem lw_p31 : lw_okq (⟨"CurtainRiggersModel", "load", "(I)I"⟩, 21) := ⟨⟨by decide +kernel, by decide +kernel⟩, lw_t10 (List.mem_of_getElem? (i := 12) rfl), lw_t10 (List.mem_of_getElem? (i := 150) rfl), lw_t10 (List.mem_of_getElem? (i := 151) rfl)⟩
def lw_privs_2 : List (MethodName × Nat) := [(⟨"CurtainRiggers$Parser", "item", "()LCurtainRiggers$Change;"⟩, 2), (⟨"CurtainRiggers$Parser", "word", "([Ljava/lang/String;)Ljava/lang/String;"⟩, 2), (⟨"CurtainRiggers$Parser", "common", "(Ljava/lang/String;)I"⟩, 2), (⟨"CurtainRiggers$Parser", "number", "()I"⟩, 2), (⟨"CurtainRiggers$Parser", "digit", "()I"⟩, 2), (⟨"CurtainRiggers$Parser", "take", "(II)I"⟩, 2), (⟨"CurtainRiggers$Parser", "isNext", "(II)Z"⟩, 2), (⟨"CurtainRiggers$Parser", "behindBlank", "(Z)I"⟩, 2), (⟨"CurtainRiggersModel", "empties", "()V"⟩, 21), (⟨"CurtainRiggersModel", "keep", "()V"⟩, 21), (⟨"CurtainRiggersModel", "fails", "(I)I"⟩, 21), (⟨"CurtainRiggersModel", "ends", "(I)I"⟩, 21), (⟨"CurtainRiggersModel", "setBar", "(III)V"⟩, 21), (⟨"CurtainRiggersModel", "isBar", "(I)Z"⟩, 21), (⟨"CurtainRiggersModel", "bar1", "(II)I"⟩, 21), (⟨"CurtainRiggersModel", "load", "(I)I"⟩, 21)]
theorem lw_r2 : ∀ q ∈ lw_privs_2, lw_okq q := List.forall_mem_cons.mpr ⟨lw_p16, List.forall_mem_cons.mpr ⟨lw_p17, List.forall_mem_cons.mpr ⟨lw_p18, List.forall_mem_cons.mpr ⟨lw_p19, List.forall_mem_cons.mpr ⟨lw_p20, List.forall_mem_cons.mpr ⟨lw_p21, List.forall_mem_cons.mpr ⟨lw_p22, List.forall_mem_cons.mpr ⟨lw_p23, List.forall_mem_cons.mpr ⟨lw_p24, List.forall_mem_cons.mpr ⟨lw_p25, List.forall_mem_cons.mpr ⟨lw_p26, List.forall_mem_cons.mpr ⟨lw_p27, List.forall_mem_cons.mpr ⟨lw_p28, List.forall_mem_cons.mpr ⟨lw_p29, List.forall_mem_cons.mpr ⟨lw_p30, List.forall_mem_cons.mpr ⟨lw_p31, fun _ h => absurd h List.not_mem_nil⟩⟩⟩⟩⟩⟩⟩⟩⟩⟩⟩⟩⟩⟩⟩⟩
theorem lw_p32 : lw_okq (⟨"CurtainRiggersModel", "barOf1", "(I)I"⟩, 21) := ⟨⟨by decide +kernel, by decide +kernel⟩, lw_t10 (List.mem_of_getElem? (i := 12) rfl), lw_t10 (List.mem_of_getElem? (i := 154) rfl), lw_t10 (List.mem_of_getElem? (i := 155) rfl)⟩
theorem lw_p33 : lw_okq (⟨"CurtainRiggersModel", "weightOf", "(I)I"⟩, 21) := ⟨⟨by decide +kernel, by decide +kernel⟩, lw_t10 (List.mem_of_getElem? (i := 12) rfl), lw_t10 (List.mem_of_getElem? (i := 158) rfl), lw_t10 (List.mem_of_getElem? (i := 159) rfl)⟩
theorem lw_p34 : lw_okq (⟨"CurtainRiggersModel", "off", "(I)I"⟩, 21) := ⟨⟨by decide +kernel, by decide +kernel⟩, lw_t10 (List.mem_of_getElem? (i := 12) rfl), lw_t10 (List.mem_of_getElem? (i := 162) rfl), lw_t10 (List.mem_of_getElem? (i := 163) rfl)⟩
theorem lw_p35 : lw_okq (⟨"CurtainRiggersModel", "bears", "(I)I"⟩, 21) := ⟨⟨by decide +kernel, by decide +kernel⟩, lw_t10 (List.mem_of_getElem? (i := 12) rfl), lw_t10 (List.mem_of_getElem? (i := 167) rfl), lw_t10 (List.mem_of_getElem? (i := 168) rfl)⟩
theorem lw_p36 : lw_okq (⟨"CurtainRiggersModel", "curtainsOn", "(I)I"⟩, 21) := ⟨⟨by decide +kernel, by decide +kernel⟩, lw_t10 (List.mem_of_getElem? (i := 12) rfl), lw_t10 (List.mem_of_getElem? (i := 172) rfl), lw_t10 (List.mem_of_getElem? (i := 173) rfl)⟩
theorem lw_p37 : lw_okq (⟨"CurtainRiggersModel", "refuse", "(III)I"⟩, 21) := ⟨⟨by decide +kernel, by decide +kernel⟩, lw_t10 (List.mem_of_getElem? (i := 12) rfl), lw_t10 (List.mem_of_getElem? (i := 180) rfl), lw_t10 (List.mem_of_getElem? (i := 181) rfl)⟩
theorem lw_p38 : lw_okq (⟨"CurtainRiggersModel", "doYear", "(I)I"⟩, 21) := ⟨⟨by decide +kernel, by decide +kernel⟩, lw_t10 (List.mem_of_getElem? (i := 12) rfl), lw_t10 (List.mem_of_getElem? (i := 188) rfl), lw_t10 (List.mem_of_getElem? (i := 189) rfl)⟩
theorem lw_p39 : lw_okq (⟨"CurtainRiggersModel", "lacks", "(I)I"⟩, 21) := ⟨⟨by decide +kernel, by decide +kernel⟩, lw_t10 (List.mem_of_getElem? (i := 12) rfl), lw_t10 (List.mem_of_getElem? (i := 192) rfl), lw_t10 (List.mem_of_getElem? (i := 193) rfl)⟩
theorem lw_p40 : lw_okq (⟨"CurtainRiggersModel", "isCurtain", "(I)Z"⟩, 21) := ⟨⟨by decide +kernel, by decide +kernel⟩, lw_t10 (List.mem_of_getElem? (i := 12) rfl), lw_t10 (List.mem_of_getElem? (i := 204) rfl), lw_t10 (List.mem_of_getElem? (i := 205) rfl)⟩
theorem lw_p41 : lw_okq (⟨"CurtainRiggersModel", "doHang", "(II)I"⟩, 21) := ⟨⟨by decide +kernel, by decide +kernel⟩, lw_t10 (List.mem_of_getElem? (i := 12) rfl), lw_t10 (List.mem_of_getElem? (i := 216) rfl), lw_t10 (List.mem_of_getElem? (i := 217) rfl)⟩
theorem lw_p42 : lw_okq (⟨"CurtainRiggersModel", "doDrop", "(I)I"⟩, 21) := ⟨⟨by decide +kernel, by decide +kernel⟩, lw_t10 (List.mem_of_getElem? (i := 12) rfl), lw_t10 (List.mem_of_getElem? (i := 224) rfl), lw_t10 (List.mem_of_getElem? (i := 225) rfl)⟩
theorem lw_p43 : lw_okq (⟨"CurtainRiggersModel", "doWeights", "(II)I"⟩, 21) := ⟨⟨by decide +kernel, by decide +kernel⟩, lw_t10 (List.mem_of_getElem? (i := 12) rfl), lw_t10 (List.mem_of_getElem? (i := 232) rfl), lw_t10 (List.mem_of_getElem? (i := 233) rfl)⟩
theorem lw_p44 : lw_okq (⟨"CurtainRiggersModel", "onBars", "()I"⟩, 21) := ⟨⟨by decide +kernel, by decide +kernel⟩, lw_t10 (List.mem_of_getElem? (i := 12) rfl), lw_t10 (List.mem_of_getElem? (i := 236) rfl), lw_t10 (List.mem_of_getElem? (i := 237) rfl)⟩
theorem lw_p45 : lw_okq (⟨"CurtainRiggersModel", "offWith", "(II)I"⟩, 21) := ⟨⟨by decide +kernel, by decide +kernel⟩, lw_t10 (List.mem_of_getElem? (i := 12) rfl), lw_t11 (List.mem_of_getElem? (i := 8) rfl), lw_t11 (List.mem_of_getElem? (i := 9) rfl)⟩
theorem lw_p46 : lw_okq (⟨"CurtainRiggersModel", "strengthOf", "(I)I"⟩, 21) := ⟨⟨by decide +kernel, by decide +kernel⟩, lw_t10 (List.mem_of_getElem? (i := 12) rfl), lw_t11 (List.mem_of_getElem? (i := 25) rfl), lw_t11 (List.mem_of_getElem? (i := 26) rfl)⟩
theorem lw_p47 : lw_okq (⟨"CurtainRiggersModel", "doDoor", "(IZ)I"⟩, 21) := ⟨⟨by decide +kernel, by decide +kernel⟩, lw_t10 (List.mem_of_getElem? (i := 12) rfl), lw_t11 (List.mem_of_getElem? (i := 37) rfl), lw_t11 (List.mem_of_getElem? (i := 38) rfl)⟩
def lw_privs_3 : List (MethodName × Nat) := [(⟨"CurtainRiggersModel", "barOf1", "(I)I"⟩, 21), (⟨"CurtainRiggersModel", "weightOf", "(I)I"⟩, 21), (⟨"CurtainRiggersModel", "off", "(I)I"⟩, 21), (⟨"CurtainRiggersModel", "bears", "(I)I"⟩, 21), (⟨"CurtainRiggersModel", "curtainsOn", "(I)I"⟩, 21), (⟨"CurtainRiggersModel", "refuse", "(III)I"⟩, 21), (⟨"CurtainRiggersModel", "doYear", "(I)I"⟩, 21), (⟨"CurtainRiggersModel", "lacks", "(I)I"⟩, 21), (⟨"CurtainRiggersModel", "isCurtain", "(I)Z"⟩, 21), (⟨"CurtainRiggersModel", "doHang", "(II)I"⟩, 21), (⟨"CurtainRiggersModel", "doDrop", "(I)I"⟩, 21), (⟨"CurtainRiggersModel", "doWeights", "(II)I"⟩, 21), (⟨"CurtainRiggersModel", "onBars", "()I"⟩, 21), (⟨"CurtainRiggersModel", "offWith", "(II)I"⟩, 21), (⟨"CurtainRiggersModel", "strengthOf", "(I)I"⟩, 21), (⟨"CurtainRiggersModel", "doDoor", "(IZ)I"⟩, 21)]
theorem lw_r3 : ∀ q ∈ lw_privs_3, lw_okq q := List.forall_mem_cons.mpr ⟨lw_p32, List.forall_mem_cons.mpr ⟨lw_p33, List.forall_mem_cons.mpr ⟨lw_p34, List.forall_mem_cons.mpr ⟨lw_p35, List.forall_mem_cons.mpr ⟨lw_p36, List.forall_mem_cons.mpr ⟨lw_p37, List.forall_mem_cons.mpr ⟨lw_p38, List.forall_mem_cons.mpr ⟨lw_p39, List.forall_mem_cons.mpr ⟨lw_p40, List.forall_mem_cons.mpr ⟨lw_p41, List.forall_mem_cons.mpr ⟨lw_p42, List.forall_mem_cons.mpr ⟨lw_p43, List.forall_mem_cons.mpr ⟨lw_p44, List.forall_mem_cons.mpr ⟨lw_p45, List.forall_mem_cons.mpr ⟨lw_p46, List.forall_mem_cons.mpr ⟨lw_p47, fun _ h => absurd h List.not_mem_nil⟩⟩⟩⟩⟩⟩⟩⟩⟩⟩⟩⟩⟩⟩⟩⟩
theorem lw_p48 : lw_okq (⟨"CurtainRiggersModel", "openDoors", "()I"⟩, 21) := ⟨⟨by decide +kernel, by decide +kernel⟩, lw_t10 (List.mem_of_getElem? (i := 12) rfl), lw_t11 (List.mem_of_getElem? (i := 41) rfl), lw_t11 (List.mem_of_getElem? (i := 42) rfl)⟩
theorem lw_p49 : lw_okq (⟨"CurtainRiggersModel", "loud", "(II)I"⟩, 21) := ⟨⟨by decide +kernel, by decide +kernel⟩, lw_t10 (List.mem_of_getElem? (i := 12) rfl), lw_t11 (List.mem_of_getElem? (i := 49) rfl), lw_t11 (List.mem_of_getElem? (i := 50) rfl)⟩
theorem lw_p50 : lw_okq (⟨"CurtainRiggersModel", "doFly", "(II)I"⟩, 21) := ⟨⟨by decide +kernel, by decide +kernel⟩, lw_t10 (List.mem_of_getElem? (i := 12) rfl), lw_t11 (List.mem_of_getElem? (i := 57) rfl), lw_t11 (List.mem_of_getElem? (i := 58) rfl)⟩
theorem lw_p51 : lw_okq (⟨"CurtainRiggersModel", "isRefused", "(II)Z"⟩, 21) := ⟨⟨by decide +kernel, by decide +kernel⟩, lw_t10 (List.mem_of_getElem? (i := 12) rfl), lw_t11 (List.mem_of_getElem? (i := 61) rfl), lw_t11 (List.mem_of_getElem? (i := 62) rfl)⟩
theorem lw_p52 : lw_okq (⟨"CurtainRiggersModel", "whyNot", "(I)I"⟩, 21) := ⟨⟨by decide +kernel, by decide +kernel⟩, lw_t10 (List.mem_of_getElem? (i := 12) rfl), lw_t11 (List.mem_of_getElem? (i := 65) rfl), lw_t11 (List.mem_of_getElem? (i := 66) rfl)⟩
theorem lw_p53 : lw_okq (⟨"CurtainRiggersModel", "flies", "(II)I"⟩, 21) := ⟨⟨by decide +kernel, by decide +kernel⟩, lw_t10 (List.mem_of_getElem? (i := 12) rfl), lw_t11 (List.mem_of_getElem? (i := 69) rfl), lw_t11 (List.mem_of_getElem? (i := 70) rfl)⟩
theorem lw_p54 : lw_okq (⟨"CurtainRiggersModel", "cue1", "(II)I"⟩, 21) := ⟨⟨by decide +kernel, by decide +kernel⟩, lw_t10 (List.mem_of_getElem? (i := 12) rfl), lw_t11 (List.mem_of_getElem? (i := 81) rfl), lw_t11 (List.mem_of_getElem? (i := 82) rfl)⟩
theorem lw_p55 : lw_okq (⟨"CurtainRiggersModel", "next", "()I"⟩, 21) := ⟨⟨by decide +kernel, by decide +kernel⟩, lw_t10 (List.mem_of_getElem? (i := 12) rfl), lw_t11 (List.mem_of_getElem? (i := 93) rfl), lw_t11 (List.mem_of_getElem? (i := 94) rfl)⟩
theorem lw_p56 : lw_okq (⟨"CurtainRiggersModel", "doGo", "()I"⟩, 21) := ⟨⟨by decide +kernel, by decide +kernel⟩, lw_t10 (List.mem_of_getElem? (i := 12) rfl), lw_t11 (List.mem_of_getElem? (i := 101) rfl), lw_t11 (List.mem_of_getElem? (i := 102) rfl)⟩
theorem lw_p57 : lw_okq (⟨"CurtainRiggersModel", "saysNumber", "(I)V"⟩, 21) := ⟨⟨by decide +kernel, by decide +kernel⟩, lw_t10 (List.mem_of_getElem? (i := 12) rfl), lw_t11 (List.mem_of_getElem? (i := 113) rfl), lw_t11 (List.mem_of_getElem? (i := 114) rfl)⟩
theorem lw_p58 : lw_okq (⟨"CurtainRiggersModel", "says", "(Ljava/lang/String;)V"⟩, 21) := ⟨⟨by decide +kernel, by decide +kernel⟩, lw_t10 (List.mem_of_getElem? (i := 12) rfl), lw_t11 (List.mem_of_getElem? (i := 118) rfl), lw_t11 (List.mem_of_getElem? (i := 119) rfl)⟩
theorem lw_p59 : lw_okq (⟨"CurtainRiggersModel", "hanging", "(Z)I"⟩, 21) := ⟨⟨by decide +kernel, by decide +kernel⟩, lw_t10 (List.mem_of_getElem? (i := 12) rfl), lw_t11 (List.mem_of_getElem? (i := 146) rfl), lw_t11 (List.mem_of_getElem? (i := 147) rfl)⟩
theorem lw_p60 : lw_okq (⟨"CurtainRiggersModel", "unbalanced", "()I"⟩, 21) := ⟨⟨by decide +kernel, by decide +kernel⟩, lw_t10 (List.mem_of_getElem? (i := 12) rfl), lw_t11 (List.mem_of_getElem? (i := 150) rfl), lw_t11 (List.mem_of_getElem? (i := 151) rfl)⟩
theorem lw_p61 : lw_okq (⟨"CurtainRiggersModel", "readItem", "()V"⟩, 21) := ⟨⟨by decide +kernel, by decide +kernel⟩, lw_t10 (List.mem_of_getElem? (i := 12) rfl), lw_t11 (List.mem_of_getElem? (i := 174) rfl), lw_t11 (List.mem_of_getElem? (i := 175) rfl)⟩
theorem lw_p62 : lw_okq (⟨"CurtainRiggersModel", "alike", "(Ljava/lang/String;)I"⟩, 21) := ⟨⟨by decide +kernel, by decide +kernel⟩, lw_t10 (List.mem_of_getElem? (i := 12) rfl), lw_t11 (List.mem_of_getElem? (i := 178) rfl), lw_t11 (List.mem_of_getElem? (i := 179) rfl)⟩
theorem lw_p63 : lw_okq (⟨"CurtainRiggersModel", "number", "()I"⟩, 21) := ⟨⟨by decide +kernel, by decide +kernel⟩, lw_t10 (List.mem_of_getElem? (i := 12) rfl), lw_t11 (List.mem_of_getElem? (i := 182) rfl), lw_t11 (List.mem_of_getElem? (i := 183) rfl)⟩
def lw_privs_4 : List (MethodName × Nat) := [(⟨"CurtainRiggersModel", "openDoors", "()I"⟩, 21), (⟨"CurtainRiggersModel", "loud", "(II)I"⟩, 21), (⟨"CurtainRiggersModel", "doFly", "(II)I"⟩, 21), (⟨"CurtainRiggersModel", "isRefused", "(II)Z"⟩, 21), (⟨"CurtainRiggersModel", "whyNot", "(I)I"⟩, 21), (⟨"CurtainRiggersModel", "flies", "(II)I"⟩, 21), (⟨"CurtainRiggersModel", "cue1", "(II)I"⟩, 21), (⟨"CurtainRiggersModel", "next", "()I"⟩, 21), (⟨"CurtainRiggersModel", "doGo", "()I"⟩, 21), (⟨"CurtainRiggersModel", "saysNumber", "(I)V"⟩, 21), (⟨"CurtainRiggersModel", "says", "(Ljava/lang/String;)V"⟩, 21), (⟨"CurtainRiggersModel", "hanging", "(Z)I"⟩, 21), (⟨"CurtainRiggersModel", "unbalanced", "()I"⟩, 21), (⟨"CurtainRiggersModel", "readItem", "()V"⟩, 21), (⟨"CurtainRiggersModel", "alike", "(Ljava/lang/String;)I"⟩, 21), (⟨"CurtainRiggersModel", "number", "()I"⟩, 21)]
theorem lw_r4 : ∀ q ∈ lw_privs_4, lw_okq q := List.forall_mem_cons.mpr ⟨lw_p48, List.forall_mem_cons.mpr ⟨lw_p49, List.forall_mem_cons.mpr ⟨lw_p50, List.forall_mem_cons.mpr ⟨lw_p51, List.forall_mem_cons.mpr ⟨lw_p52, List.forall_mem_cons.mpr ⟨lw_p53, List.forall_mem_cons.mpr ⟨lw_p54, List.forall_mem_cons.mpr ⟨lw_p55, List.forall_mem_cons.mpr ⟨lw_p56, List.forall_mem_cons.mpr ⟨lw_p57, List.forall_mem_cons.mpr ⟨lw_p58, List.forall_mem_cons.mpr ⟨lw_p59, List.forall_mem_cons.mpr ⟨lw_p60, List.forall_mem_cons.mpr ⟨lw_p61, List.forall_mem_cons.mpr ⟨lw_p62, List.forall_mem_cons.mpr ⟨lw_p63, fun _ h => absurd h List.not_mem_nil⟩⟩⟩⟩⟩⟩⟩⟩⟩⟩⟩⟩⟩⟩⟩⟩
theorem lw_p64 : lw_okq (⟨"CurtainRiggersModel", "digit", "()I"⟩, 21) := ⟨⟨by decide +kernel, by decide +kernel⟩, lw_t10 (List.mem_of_getElem? (i := 12) rfl), lw_t11 (List.mem_of_getElem? (i := 186) rfl), lw_t11 (List.mem_of_getElem? (i := 187) rfl)⟩
theorem lw_p65 : lw_okq (⟨"CurtainRiggersModel", "sign", "(CC)I"⟩, 21) := ⟨⟨by decide +kernel, by decide +kernel⟩, lw_t10 (List.mem_of_getElem? (i := 12) rfl), lw_t11 (List.mem_of_getElem? (i := 190) rfl), lw_t11 (List.mem_of_getElem? (i := 191) rfl)⟩
theorem lw_p66 : lw_okq (⟨"CurtainRiggersModel", "isHere", "(CC)Z"⟩, 21) := ⟨⟨by decide +kernel, by decide +kernel⟩, lw_t10 (List.mem_of_getElem? (i := 12) rfl), lw_t11 (List.mem_of_getElem? (i := 194) rfl), lw_t11 (List.mem_of_getElem? (i := 195) rfl)⟩
theorem lw_p67 : lw_okq (⟨"CurtainRiggersModel", "does", "(I)V"⟩, 21) := ⟨⟨by decide +kernel, by decide +kernel⟩, lw_t10 (List.mem_of_getElem? (i := 12) rfl), lw_t11 (List.mem_of_getElem? (i := 198) rfl), lw_t11 (List.mem_of_getElem? (i := 199) rfl)⟩
def lw_privs_5 : List (MethodName × Nat) := [(⟨"CurtainRiggersModel", "digit", "()I"⟩, 21), (⟨"CurtainRiggersModel", "sign", "(CC)I"⟩, 21), (⟨"CurtainRiggersModel", "isHere", "(CC)Z"⟩, 21), (⟨"CurtainRiggersModel", "does", "(I)V"⟩, 21)]
theorem lw_r5 : ∀ q ∈ lw_privs_5, lw_okq q := List.forall_mem_cons.mpr ⟨lw_p64, List.forall_mem_cons.mpr ⟨lw_p65, List.forall_mem_cons.mpr ⟨lw_p66, List.forall_mem_cons.mpr ⟨lw_p67, fun _ h => absurd h List.not_mem_nil⟩⟩⟩⟩
def lw_privs : List (MethodName × Nat) := lw_privs_1 ++ (lw_privs_2 ++ (lw_privs_3 ++ (lw_privs_4 ++ (lw_privs_5))))
def lw_tbl : List Cond := k2_sels lw_privs ++ tables_1
theorem lw_privs_ok : ∀ q ∈ lw_privs, lw_okq q := by
  show ∀ q ∈ lw_privs_1 ++ (lw_privs_2 ++ (lw_privs_3 ++ (lw_privs_4 ++ (lw_privs_5)))), lw_okq q
  exact List.forall_mem_append.mpr ⟨lw_r1, List.forall_mem_append.mpr ⟨lw_r2, List.forall_mem_append.mpr ⟨lw_r3, List.forall_mem_append.mpr ⟨lw_r4, lw_r5⟩⟩⟩⟩
-- ===== ONE list of words for every method: the tables' words that hold all through a run =====
def lw_all : List Cond := lw_tbl.filter goodWord
/-- a word of the tables by its place: claim/WORDS.tsv -/
theorem lw_w {w : Cond} (i : Nat) (h : lw_tbl[i]? = some w) (g : goodWord w = true) : w ∈ lw_all := List.mem_filter.mpr ⟨List.mem_of_getElem? h, g⟩
theorem lw_all_tbl {w : Cond} (h : w ∈ lw_all) : w ∈ lw_tbl := (List.mem_filter.mp h).1
theorem lw_self : GoodIn lw_all lw_all := fun w h => ⟨h, good_of_word (List.mem_filter.mp h).2⟩
/-- a class's field words, by their places -/
theorem lw_in (ws : List Cond) (ps : List Nat) (hp : ws = ps.filterMap (fun i => lw_tbl[i]?)) (hg : ws.all goodWord = true) : ∀ w ∈ ws, w ∈ lw_all := by
  intro w h
  have h1 := List.all_eq_true.mp hg w h
  rw [hp] at h
  obtain ⟨i, -, hi⟩ := List.mem_filterMap.mp h
  exact lw_w i hi h1
/-- the words of a contract for the method y with code b, L locals, answer r -/
abbrev ws_ (y : MethodName) (b : ByteArray) (L : Nat) (r : Option FieldType) : List Cond := Cond.code y b L r :: lw_all
theorem lw_meth {y : MethodName} {b : ByteArray} {L : Nat} {r : Option FieldType} (h : Cond.code y b L r ∈ lw_all) : GoodIn lw_all (ws_ y b L r) := by
  intro w hw
  rcases List.mem_cons.mp hw with e | e
  · rw [e]
    exact lw_self _ h
  · exact lw_self _ e
theorem lw_app {a c : List Cond} (ha : ∀ w ∈ a, w ∈ lw_all) (hc : GoodIn lw_all c) : GoodIn lw_all (a ++ c) := by
  intro w hw
  rcases List.mem_append.mp hw with e | e
  · exact lw_self w (ha w e)
  · exact hc w e
/-- what a call through an object asks: cwV n hts (lw_V ..) -/
theorem lw_V {own : String} {idx : Nat} {C : String} {y : MethodName} {b : ByteArray} {L : Nat} {r : Option FieldType} (h1 : Cond.methodLink own idx y ∈ lw_all) (h2 : Cond.instanceMethod y ∈ lw_all) (h3 : Cond.selects C y y ∈ lw_all) (h4 : Cond.initialized C ∈ lw_all) (h5 : Cond.code y b L r ∈ lw_all) : GoodIn lw_all (wsV own idx C y (ws_ y b L r)) := by
  refine lw_app ?_ (lw_meth h5)
  intro w hw
  simp only [List.mem_cons, List.not_mem_nil, or_false] at hw
  rcases hw with e | e | e | e
  · rw [e]; exact h1
  · rw [e]; exact h2
  · rw [e]; exact h3
  · rw [e]; exact h4
/-- what a static call asks: va_cwS n hts (lw_S ..) -/
theorem lw_S {own : String} {idx : Nat} {y : MethodName} {b : ByteArray} {L : Nat} {r : Option FieldType} (h1 : Cond.methodLink own idx y ∈ lw_all) (h2 : Cond.static y ∈ lw_all) (h3 : Cond.initialized y.cls ∈ lw_all) (h4 : Cond.code y b L r ∈ lw_all) : GoodIn lw_all (va_wsS own idx y (ws_ y b L r)) := by
  refine lw_app ?_ (lw_meth h4)
  intro w hw
  simp only [List.mem_cons, List.not_mem_nil, or_false] at hw
  rcases hw with e | e | e
  · rw [e]; exact h1
  · rw [e]; exact h2
  · rw [e]; exact h3
/-- the words of a contract for a method WITH HANDLERS (hh: its table) -/
abbrev wsW_ (y : MethodName) (b : ByteArray) (L : Nat) (r : Option FieldType) (hh : List (Nat × Nat × Nat × Nat)) : List Cond := Cond.codeWith y b L r hh :: lw_all
theorem lw_methW {y : MethodName} {b : ByteArray} {L : Nat} {r : Option FieldType} {hh : List (Nat × Nat × Nat × Nat)} (h : Cond.codeWith y b L r hh ∈ lw_all) : GoodIn lw_all (wsW_ y b L r hh) := by
  intro w hw
  rcases List.mem_cons.mp hw with e | e
  · rw [e]
    exact lw_self _ h
  · exact lw_self _ e
/-- any list of words by their places (lw_in), good -/
theorem lw_good {ws : List Cond} (h : ∀ w ∈ ws, w ∈ lw_all) : GoodIn lw_all ws := fun w hw => lw_self w (h w hw)
/-- what a call of a method with handlers asks: vx_cwVW n hts (lw_VW ..), vx_cwSW n hts (lw_SW ..) -/
theorem lw_VW {own : String} {idx : Nat} {C : String} {y : MethodName} {b : ByteArray} {L : Nat} {r : Option FieldType} {hh : List (Nat × Nat × Nat × Nat)} (h1 : Cond.methodLink own idx y ∈ lw_all) (h2 : Cond.instanceMethod y ∈ lw_all) (h3 : Cond.selects C y y ∈ lw_all) (h4 : Cond.initialized C ∈ lw_all) (h5 : Cond.codeWith y b L r hh ∈ lw_all) : GoodIn lw_all (wsV own idx C y (wsW_ y b L r hh)) := by
  refine lw_app ?_ (lw_methW h5)
  intro w hw
  simp only [List.mem_cons, List.not_mem_nil, or_false] at hw
  rcases hw with e | e | e | e
  · rw [e]; exact h1
  · rw [e]; exact h2
  · rw [e]; exact h3
  · rw [e]; exact h4
theorem lw_SW {own : String} {idx : Nat} {y : MethodName} {b : ByteArray} {L : Nat} {r : Option FieldType} {hh : List (Nat × Nat × Nat × Nat)} (h1 : Cond.methodLink own idx y ∈ lw_all) (h2 : Cond.static y ∈ lw_all) (h3 : Cond.initialized y.cls ∈ lw_all) (h4 : Cond.codeWith y b L r hh ∈ lw_all) : GoodIn lw_all (va_wsS own idx y (wsW_ y b L r hh)) := by
  refine lw_app ?_ (lw_methW h4)
  intro w hw
  simp only [List.mem_cons, List.not_mem_nil, or_false] at hw
  rcases hw with e | e | e
  · rw [e]; exact h1
  · rw [e]; exact h2
  · rw [e]; exact h3
/-- a word by its place in its run of the tables -/
theorem lw_at {r : List Cond} (hr : ∀ w ∈ r, w ∈ lw_tbl) {w : Cond} (i : Nat) (h : r[i]? = some w) : w ∈ lw_tbl := hr w (List.mem_of_getElem? h)
theorem lw_g {w : Cond} (h : w ∈ lw_tbl) (g : goodWord w = true) : w ∈ lw_all := List.mem_filter.mpr ⟨h, g⟩
theorem lw_ms : ∀ w ∈ k2_sels lw_privs, w ∈ lw_tbl := fun w h => show w ∈ k2_sels lw_privs ++ tables_1 from List.mem_append_left _ h
theorem lw_m1 : ∀ w ∈ tables_1_1, w ∈ lw_tbl := fun w h => show w ∈ k2_sels lw_privs ++ tables_1 from List.mem_append_right (k2_sels lw_privs) (show w ∈ tables_1 from List.mem_append_left _ h)
theorem lw_m2 : ∀ w ∈ tables_1_2, w ∈ lw_tbl := fun w h => show w ∈ k2_sels lw_privs ++ tables_1 from List.mem_append_right (k2_sels lw_privs) (show w ∈ tables_1 from List.mem_append_right _ (List.mem_append_left _ h))
theorem lw_m3 : ∀ w ∈ tables_1_3, w ∈ lw_tbl := fun w h => show w ∈ k2_sels lw_privs ++ tables_1 from List.mem_append_right (k2_sels lw_privs) (show w ∈ tables_1 from List.mem_append_right _ (List.mem_append_right _ (List.mem_append_left _ h)))
theorem lw_m4 : ∀ w ∈ tables_1_4, w ∈ lw_tbl := fun w h => show w ∈ k2_sels lw_privs ++ tables_1 from List.mem_append_right (k2_sels lw_privs) (show w ∈ tables_1 from List.mem_append_right _ (List.mem_append_right _ (List.mem_append_right _ (List.mem_append_left _ h))))
theorem lw_m5 : ∀ w ∈ tables_1_5, w ∈ lw_tbl := fun w h => show w ∈ k2_sels lw_privs ++ tables_1 from List.mem_append_right (k2_sels lw_privs) (show w ∈ tables_1 from List.mem_append_right _ (List.mem_append_right _ (List.mem_append_right _ (List.mem_append_right _ (List.mem_append_left _ h)))))
theorem lw_m6 : ∀ w ∈ tables_1_6, w ∈ lw_tbl := fun w h => show w ∈ k2_sels lw_privs ++ tables_1 from List.mem_append_right (k2_sels lw_privs) (show w ∈ tables_1 from List.mem_append_right _ (List.mem_append_right _ (List.mem_append_right _ (List.mem_append_right _ (List.mem_append_right _ (List.mem_append_left _ h))))))
theorem lw_m7 : ∀ w ∈ tables_1_7, w ∈ lw_tbl := fun w h => show w ∈ k2_sels lw_privs ++ tables_1 from List.mem_append_right (k2_sels lw_privs) (show w ∈ tables_1 from List.mem_append_right _ (List.mem_append_right _ (List.mem_append_right _ (List.mem_append_right _ (List.mem_append_right _ (List.mem_append_right _ (List.mem_append_left _ h)))))))
theorem lw_m8 : ∀ w ∈ tables_1_8, w ∈ lw_tbl := fun w h => show w ∈ k2_sels lw_privs ++ tables_1 from List.mem_append_right (k2_sels lw_privs) (show w ∈ tables_1 from List.mem_append_right _ (List.mem_append_right _ (List.mem_append_right _ (List.mem_append_right _ (List.mem_append_right _ (List.mem_append_right _ (List.mem_append_right _ (List.mem_append_left _ h))))))))
theorem lw_m9 : ∀ w ∈ tables_1_9, w ∈ lw_tbl := fun w h => show w ∈ k2_sels lw_privs ++ tables_1 from List.mem_append_right (k2_sels lw_privs) (show w ∈ tables_1 from List.mem_append_right _ (List.mem_append_right _ (List.mem_append_right _ (List.mem_append_right _ (List.mem_append_right _ (List.mem_append_right _ (List.mem_append_right _ (List.mem_append_right _ (List.mem_append_left _ h)))))))))
theorem lw_m10 : ∀ w ∈ tables_1_10, w ∈ lw_tbl := fun w h => show w ∈ k2_sels lw_privs ++ tables_1 from List.mem_append_right (k2_sels lw_privs) (show w ∈ tables_1 from List.mem_append_right _ (List.mem_append_right _ (List.mem_append_right _ (List.mem_append_right _ (List.mem_append_right _ (List.mem_append_right _ (List.mem_append_right _ (List.mem_append_right _ (List.mem_append_right _ (List.mem_append_left _ h))))))))))
theorem lw_m11 : ∀ w ∈ tables_1_11, w ∈ lw_tbl := fun w h => show w ∈ k2_sels lw_privs ++ tables_1 from List.mem_append_right (k2_sels lw_privs) (show w ∈ tables_1 from List.mem_append_right _ (List.mem_append_right _ (List.mem_append_right _ (List.mem_append_right _ (List.mem_append_right _ (List.mem_append_right _ (List.mem_append_right _ (List.mem_append_right _ (List.mem_append_right _ (List.mem_append_right _ (List.mem_append_left _ h)))))))))))
theorem lw_m12 : ∀ w ∈ tables_1_12, w ∈ lw_tbl := fun w h => show w ∈ k2_sels lw_privs ++ tables_1 from List.mem_append_right (k2_sels lw_privs) (show w ∈ tables_1 from List.mem_append_right _ (List.mem_append_right _ (List.mem_append_right _ (List.mem_append_right _ (List.mem_append_right _ (List.mem_append_right _ (List.mem_append_right _ (List.mem_append_right _ (List.mem_append_right _ (List.mem_append_right _ (List.mem_append_right _ h)))))))))))
theorem qs0 : (Cond.selects "java/lang/Throwable" ⟨"java/lang/Throwable", "fillInStackTrace", "(I)Ljava/lang/Throwable;"⟩ ⟨"java/lang/Throwable", "fillInStackTrace", "(I)Ljava/lang/Throwable;"⟩) ∈ lw_all := lw_g (lw_at lw_ms 0 rfl) rfl
theorem qs1 : (Cond.selects "java/util/ArrayList" ⟨"java/util/ArrayList", "add", "(Ljava/lang/Object;[Ljava/lang/Object;I)V"⟩ ⟨"java/util/ArrayList", "add", "(Ljava/lang/Object;[Ljava/lang/Object;I)V"⟩) ∈ lw_all := lw_g (lw_at lw_ms 1 rfl) rfl
theorem qs2 : (Cond.selects "java/util/ArrayList" ⟨"java/util/ArrayList", "grow", "()[Ljava/lang/Object;"⟩ ⟨"java/util/ArrayList", "grow", "()[Ljava/lang/Object;"⟩) ∈ lw_all := lw_g (lw_at lw_ms 2 rfl) rfl
theorem qs3 : (Cond.selects "java/util/ArrayList" ⟨"java/util/ArrayList", "grow", "(I)[Ljava/lang/Object;"⟩ ⟨"java/util/ArrayList", "grow", "(I)[Ljava/lang/Object;"⟩) ∈ lw_all := lw_g (lw_at lw_ms 3 rfl) rfl
theorem qs4 : (Cond.selects "java/util/ArrayList" ⟨"java/util/ArrayList", "rangeCheckForAdd", "(I)V"⟩ ⟨"java/util/ArrayList", "rangeCheckForAdd", "(I)V"⟩) ∈ lw_all := lw_g (lw_at lw_ms 4 rfl) rfl
theorem qs5 : (Cond.selects "java/util/ArrayList" ⟨"java/util/ArrayList", "outOfBoundsMsg", "(I)Ljava/lang/String;"⟩ ⟨"java/util/ArrayList", "outOfBoundsMsg", "(I)Ljava/lang/String;"⟩) ∈ lw_all := lw_g (lw_at lw_ms 5 rfl) rfl
theorem qs6 : (Cond.selects "CurtainRiggers$ByBalance" ⟨"CurtainRiggers$ByBalance", "outBy", "(LCurtainRiggers$Bar;)I"⟩ ⟨"CurtainRiggers$ByBalance", "outBy", "(LCurtainRiggers$Bar;)I"⟩) ∈ lw_all := lw_g (lw_at lw_ms 6 rfl) rfl
theorem qs7 : (Cond.selects "CurtainRiggers$Theatre" ⟨"CurtainRiggers$Theatre", "checkFlight", "(LCurtainRiggers$Bar;)V"⟩ ⟨"CurtainRiggers$Theatre", "checkFlight", "(LCurtainRiggers$Bar;)V"⟩) ∈ lw_all := lw_g (lw_at lw_ms 7 rfl) rfl
theorem qs8 : (Cond.selects "CurtainRiggers$Theatre" ⟨"CurtainRiggers$Theatre", "lift", "(LCurtainRiggers$Bar;I)I"⟩ ⟨"CurtainRiggers$Theatre", "lift", "(LCurtainRiggers$Bar;I)I"⟩) ∈ lw_all := lw_g (lw_at lw_ms 8 rfl) rfl
theorem qs9 : (Cond.selects "CurtainRiggers" ⟨"CurtainRiggers", "change", "(Ljava/lang/String;II)I"⟩ ⟨"CurtainRiggers", "change", "(Ljava/lang/String;II)I"⟩) ∈ lw_all := lw_g (lw_at lw_ms 9 rfl) rfl
theorem qs10 : (Cond.selects "CurtainRiggers" ⟨"CurtainRiggers", "become", "(LCurtainRiggers$Theatre;)V"⟩ ⟨"CurtainRiggers", "become", "(LCurtainRiggers$Theatre;)V"⟩) ∈ lw_all := lw_g (lw_at lw_ms 10 rfl) rfl
theorem qs11 : (Cond.selects "java/util/ArrayDeque" ⟨"java/util/ArrayDeque", "grow", "(I)V"⟩ ⟨"java/util/ArrayDeque", "grow", "(I)V"⟩) ∈ lw_all := lw_g (lw_at lw_ms 11 rfl) rfl
theorem qs12 : (Cond.selects "java/util/ArrayDeque" ⟨"java/util/ArrayDeque", "newCapacity", "(II)I"⟩ ⟨"java/util/ArrayDeque", "newCapacity", "(II)I"⟩) ∈ lw_all := lw_g (lw_at lw_ms 12 rfl) rfl
theorem qs13 : (Cond.selects "CurtainRiggers$Theatre" ⟨"CurtainRiggers$Theatre", "low", "()Ljava/util/ArrayList;"⟩ ⟨"CurtainRiggers$Theatre", "low", "()Ljava/util/ArrayList;"⟩) ∈ lw_all := lw_g (lw_at lw_ms 13 rfl) rfl
theorem qs14 : (Cond.selects "CurtainRiggers$Theatre" ⟨"CurtainRiggers$Theatre", "cueWith", "(I)LCurtainRiggers$Cue;"⟩ ⟨"CurtainRiggers$Theatre", "cueWith", "(I)LCurtainRiggers$Cue;"⟩) ∈ lw_all := lw_g (lw_at lw_ms 14 rfl) rfl
theorem qs15 : (Cond.selects "CurtainRiggers" ⟨"CurtainRiggers", "takeItems", "()Ljava/util/ArrayList;"⟩ ⟨"CurtainRiggers", "takeItems", "()Ljava/util/ArrayList;"⟩) ∈ lw_all := lw_g (lw_at lw_ms 15 rfl) rfl
theorem qs16 : (Cond.selects "CurtainRiggers$Parser" ⟨"CurtainRiggers$Parser", "item", "()LCurtainRiggers$Change;"⟩ ⟨"CurtainRiggers$Parser", "item", "()LCurtainRiggers$Change;"⟩) ∈ lw_all := lw_g (lw_at lw_ms 16 rfl) rfl
theorem qs17 : (Cond.selects "CurtainRiggers$Parser" ⟨"CurtainRiggers$Parser", "word", "([Ljava/lang/String;)Ljava/lang/String;"⟩ ⟨"CurtainRiggers$Parser", "word", "([Ljava/lang/String;)Ljava/lang/String;"⟩) ∈ lw_all := lw_g (lw_at lw_ms 17 rfl) rfl
theorem qs18 : (Cond.selects "CurtainRiggers$Parser" ⟨"CurtainRiggers$Parser", "common", "(Ljava/lang/String;)I"⟩ ⟨"CurtainRiggers$Parser", "common", "(Ljava/lang/String;)I"⟩) ∈ lw_all := lw_g (lw_at lw_ms 18 rfl) rfl
theorem qs19 : (Cond.selects "CurtainRiggers$Parser" ⟨"CurtainRiggers$Parser", "number", "()I"⟩ ⟨"CurtainRiggers$Parser", "number", "()I"⟩) ∈ lw_all := lw_g (lw_at lw_ms 19 rfl) rfl
theorem qs20 : (Cond.selects "CurtainRiggers$Parser" ⟨"CurtainRiggers$Parser", "digit", "()I"⟩ ⟨"CurtainRiggers$Parser", "digit", "()I"⟩) ∈ lw_all := lw_g (lw_at lw_ms 20 rfl) rfl
theorem qs21 : (Cond.selects "CurtainRiggers$Parser" ⟨"CurtainRiggers$Parser", "take", "(II)I"⟩ ⟨"CurtainRiggers$Parser", "take", "(II)I"⟩) ∈ lw_all := lw_g (lw_at lw_ms 21 rfl) rfl
theorem qs22 : (Cond.selects "CurtainRiggers$Parser" ⟨"CurtainRiggers$Parser", "isNext", "(II)Z"⟩ ⟨"CurtainRiggers$Parser", "isNext", "(II)Z"⟩) ∈ lw_all := lw_g (lw_at lw_ms 22 rfl) rfl
theorem qs23 : (Cond.selects "CurtainRiggers$Parser" ⟨"CurtainRiggers$Parser", "behindBlank", "(Z)I"⟩ ⟨"CurtainRiggers$Parser", "behindBlank", "(Z)I"⟩) ∈ lw_all := lw_g (lw_at lw_ms 23 rfl) rfl
theorem qs24 : (Cond.selects "CurtainRiggersModel" ⟨"CurtainRiggersModel", "empties", "()V"⟩ ⟨"CurtainRiggersModel", "empties", "()V"⟩) ∈ lw_all := lw_g (lw_at lw_ms 24 rfl) rfl
theorem qs25 : (Cond.selects "CurtainRiggersModel" ⟨"CurtainRiggersModel", "keep", "()V"⟩ ⟨"CurtainRiggersModel", "keep", "()V"⟩) ∈ lw_all := lw_g (lw_at lw_ms 25 rfl) rfl
theorem qs26 : (Cond.selects "CurtainRiggersModel" ⟨"CurtainRiggersModel", "fails", "(I)I"⟩ ⟨"CurtainRiggersModel", "fails", "(I)I"⟩) ∈ lw_all := lw_g (lw_at lw_ms 26 rfl) rfl
theorem qs27 : (Cond.selects "CurtainRiggersModel" ⟨"CurtainRiggersModel", "ends", "(I)I"⟩ ⟨"CurtainRiggersModel", "ends", "(I)I"⟩) ∈ lw_all := lw_g (lw_at lw_ms 27 rfl) rfl
theorem qs28 : (Cond.selects "CurtainRiggersModel" ⟨"CurtainRiggersModel", "setBar", "(III)V"⟩ ⟨"CurtainRiggersModel", "setBar", "(III)V"⟩) ∈ lw_all := lw_g (lw_at lw_ms 28 rfl) rfl
theorem qs29 : (Cond.selects "CurtainRiggersModel" ⟨"CurtainRiggersModel", "isBar", "(I)Z"⟩ ⟨"CurtainRiggersModel", "isBar", "(I)Z"⟩) ∈ lw_all := lw_g (lw_at lw_ms 29 rfl) rfl
theorem qs30 : (Cond.selects "CurtainRiggersModel" ⟨"CurtainRiggersModel", "bar1", "(II)I"⟩ ⟨"CurtainRiggersModel", "bar1", "(II)I"⟩) ∈ lw_all := lw_g (lw_at lw_ms 30 rfl) rfl
theorem qs31 : (Cond.selects "CurtainRiggersModel" ⟨"CurtainRiggersModel", "load", "(I)I"⟩ ⟨"CurtainRiggersModel", "load", "(I)I"⟩) ∈ lw_all := lw_g (lw_at lw_ms 31 rfl) rfl
theorem qs32 : (Cond.selects "CurtainRiggersModel" ⟨"CurtainRiggersModel", "barOf1", "(I)I"⟩ ⟨"CurtainRiggersModel", "barOf1", "(I)I"⟩) ∈ lw_all := lw_g (lw_at lw_ms 32 rfl) rfl
theorem qs33 : (Cond.selects "CurtainRiggersModel" ⟨"CurtainRiggersModel", "weightOf", "(I)I"⟩ ⟨"CurtainRiggersModel", "weightOf", "(I)I"⟩) ∈ lw_all := lw_g (lw_at lw_ms 33 rfl) rfl
theorem qs34 : (Cond.selects "CurtainRiggersModel" ⟨"CurtainRiggersModel", "off", "(I)I"⟩ ⟨"CurtainRiggersModel", "off", "(I)I"⟩) ∈ lw_all := lw_g (lw_at lw_ms 34 rfl) rfl
theorem qs35 : (Cond.selects "CurtainRiggersModel" ⟨"CurtainRiggersModel", "bears", "(I)I"⟩ ⟨"CurtainRiggersModel", "bears", "(I)I"⟩) ∈ lw_all := lw_g (lw_at lw_ms 35 rfl) rfl
theorem qs36 : (Cond.selects "CurtainRiggersModel" ⟨"CurtainRiggersModel", "curtainsOn", "(I)I"⟩ ⟨"CurtainRiggersModel", "curtainsOn", "(I)I"⟩) ∈ lw_all := lw_g (lw_at lw_ms 36 rfl) rfl
theorem qs37 : (Cond.selects "CurtainRiggersModel" ⟨"CurtainRiggersModel", "refuse", "(III)I"⟩ ⟨"CurtainRiggersModel", "refuse", "(III)I"⟩) ∈ lw_all := lw_g (lw_at lw_ms 37 rfl) rfl
theorem qs38 : (Cond.selects "CurtainRiggersModel" ⟨"CurtainRiggersModel", "doYear", "(I)I"⟩ ⟨"CurtainRiggersModel", "doYear", "(I)I"⟩) ∈ lw_all := lw_g (lw_at lw_ms 38 rfl) rfl
theorem qs39 : (Cond.selects "CurtainRiggersModel" ⟨"CurtainRiggersModel", "lacks", "(I)I"⟩ ⟨"CurtainRiggersModel", "lacks", "(I)I"⟩) ∈ lw_all := lw_g (lw_at lw_ms 39 rfl) rfl
theorem qs40 : (Cond.selects "CurtainRiggersModel" ⟨"CurtainRiggersModel", "isCurtain", "(I)Z"⟩ ⟨"CurtainRiggersModel", "isCurtain", "(I)Z"⟩) ∈ lw_all := lw_g (lw_at lw_ms 40 rfl) rfl
theorem qs41 : (Cond.selects "CurtainRiggersModel" ⟨"CurtainRiggersModel", "doHang", "(II)I"⟩ ⟨"CurtainRiggersModel", "doHang", "(II)I"⟩) ∈ lw_all := lw_g (lw_at lw_ms 41 rfl) rfl
theorem qs42 : (Cond.selects "CurtainRiggersModel" ⟨"CurtainRiggersModel", "doDrop", "(I)I"⟩ ⟨"CurtainRiggersModel", "doDrop", "(I)I"⟩) ∈ lw_all := lw_g (lw_at lw_ms 42 rfl) rfl
theorem qs43 : (Cond.selects "CurtainRiggersModel" ⟨"CurtainRiggersModel", "doWeights", "(II)I"⟩ ⟨"CurtainRiggersModel", "doWeights", "(II)I"⟩) ∈ lw_all := lw_g (lw_at lw_ms 43 rfl) rfl
theorem qs44 : (Cond.selects "CurtainRiggersModel" ⟨"CurtainRiggersModel", "onBars", "()I"⟩ ⟨"CurtainRiggersModel", "onBars", "()I"⟩) ∈ lw_all := lw_g (lw_at lw_ms 44 rfl) rfl
theorem qs45 : (Cond.selects "CurtainRiggersModel" ⟨"CurtainRiggersModel", "offWith", "(II)I"⟩ ⟨"CurtainRiggersModel", "offWith", "(II)I"⟩) ∈ lw_all := lw_g (lw_at lw_ms 45 rfl) rfl
theorem qs46 : (Cond.selects "CurtainRiggersModel" ⟨"CurtainRiggersModel", "strengthOf", "(I)I"⟩ ⟨"CurtainRiggersModel", "strengthOf", "(I)I"⟩) ∈ lw_all := lw_g (lw_at lw_ms 46 rfl) rfl
theorem qs47 : (Cond.selects "CurtainRiggersModel" ⟨"CurtainRiggersModel", "doDoor", "(IZ)I"⟩ ⟨"CurtainRiggersModel", "doDoor", "(IZ)I"⟩) ∈ lw_all := lw_g (lw_at lw_ms 47 rfl) rfl
theorem qs48 : (Cond.selects "CurtainRiggersModel" ⟨"CurtainRiggersModel", "openDoors", "()I"⟩ ⟨"CurtainRiggersModel", "openDoors", "()I"⟩) ∈ lw_all := lw_g (lw_at lw_ms 48 rfl) rfl
theorem qs49 : (Cond.selects "CurtainRiggersModel" ⟨"CurtainRiggersModel", "loud", "(II)I"⟩ ⟨"CurtainRiggersModel", "loud", "(II)I"⟩) ∈ lw_all := lw_g (lw_at lw_ms 49 rfl) rfl
theorem qs50 : (Cond.selects "CurtainRiggersModel" ⟨"CurtainRiggersModel", "doFly", "(II)I"⟩ ⟨"CurtainRiggersModel", "doFly", "(II)I"⟩) ∈ lw_all := lw_g (lw_at lw_ms 50 rfl) rfl
theorem qs51 : (Cond.selects "CurtainRiggersModel" ⟨"CurtainRiggersModel", "isRefused", "(II)Z"⟩ ⟨"CurtainRiggersModel", "isRefused", "(II)Z"⟩) ∈ lw_all := lw_g (lw_at lw_ms 51 rfl) rfl
theorem qs52 : (Cond.selects "CurtainRiggersModel" ⟨"CurtainRiggersModel", "whyNot", "(I)I"⟩ ⟨"CurtainRiggersModel", "whyNot", "(I)I"⟩) ∈ lw_all := lw_g (lw_at lw_ms 52 rfl) rfl
theorem qs53 : (Cond.selects "CurtainRiggersModel" ⟨"CurtainRiggersModel", "flies", "(II)I"⟩ ⟨"CurtainRiggersModel", "flies", "(II)I"⟩) ∈ lw_all := lw_g (lw_at lw_ms 53 rfl) rfl
theorem qs54 : (Cond.selects "CurtainRiggersModel" ⟨"CurtainRiggersModel", "cue1", "(II)I"⟩ ⟨"CurtainRiggersModel", "cue1", "(II)I"⟩) ∈ lw_all := lw_g (lw_at lw_ms 54 rfl) rfl
theorem qs55 : (Cond.selects "CurtainRiggersModel" ⟨"CurtainRiggersModel", "next", "()I"⟩ ⟨"CurtainRiggersModel", "next", "()I"⟩) ∈ lw_all := lw_g (lw_at lw_ms 55 rfl) rfl
theorem qs56 : (Cond.selects "CurtainRiggersModel" ⟨"CurtainRiggersModel", "doGo", "()I"⟩ ⟨"CurtainRiggersModel", "doGo", "()I"⟩) ∈ lw_all := lw_g (lw_at lw_ms 56 rfl) rfl
theorem qs57 : (Cond.selects "CurtainRiggersModel" ⟨"CurtainRiggersModel", "saysNumber", "(I)V"⟩ ⟨"CurtainRiggersModel", "saysNumber", "(I)V"⟩) ∈ lw_all := lw_g (lw_at lw_ms 57 rfl) rfl
theorem qs58 : (Cond.selects "CurtainRiggersModel" ⟨"CurtainRiggersModel", "says", "(Ljava/lang/String;)V"⟩ ⟨"CurtainRiggersModel", "says", "(Ljava/lang/String;)V"⟩) ∈ lw_all := lw_g (lw_at lw_ms 58 rfl) rfl
theorem qs59 : (Cond.selects "CurtainRiggersModel" ⟨"CurtainRiggersModel", "hanging", "(Z)I"⟩ ⟨"CurtainRiggersModel", "hanging", "(Z)I"⟩) ∈ lw_all := lw_g (lw_at lw_ms 59 rfl) rfl
theorem qs60 : (Cond.selects "CurtainRiggersModel" ⟨"CurtainRiggersModel", "unbalanced", "()I"⟩ ⟨"CurtainRiggersModel", "unbalanced", "()I"⟩) ∈ lw_all := lw_g (lw_at lw_ms 60 rfl) rfl
theorem qs61 : (Cond.selects "CurtainRiggersModel" ⟨"CurtainRiggersModel", "readItem", "()V"⟩ ⟨"CurtainRiggersModel", "readItem", "()V"⟩) ∈ lw_all := lw_g (lw_at lw_ms 61 rfl) rfl
theorem qs62 : (Cond.selects "CurtainRiggersModel" ⟨"CurtainRiggersModel", "alike", "(Ljava/lang/String;)I"⟩ ⟨"CurtainRiggersModel", "alike", "(Ljava/lang/String;)I"⟩) ∈ lw_all := lw_g (lw_at lw_ms 62 rfl) rfl
theorem qs63 : (Cond.selects "CurtainRiggersModel" ⟨"CurtainRiggersModel", "number", "()I"⟩ ⟨"CurtainRiggersModel", "number", "()I"⟩) ∈ lw_all := lw_g (lw_at lw_ms 63 rfl) rfl
theorem qs64 : (Cond.selects "CurtainRiggersModel" ⟨"CurtainRiggersModel", "digit", "()I"⟩ ⟨"CurtainRiggersModel", "digit", "()I"⟩) ∈ lw_all := lw_g (lw_at lw_ms 64 rfl) rfl
theorem qs65 : (Cond.selects "CurtainRiggersModel" ⟨"CurtainRiggersModel", "sign", "(CC)I"⟩ ⟨"CurtainRiggersModel", "sign", "(CC)I"⟩) ∈ lw_all := lw_g (lw_at lw_ms 65 rfl) rfl
theorem qs66 : (Cond.selects "CurtainRiggersModel" ⟨"CurtainRiggersModel", "isHere", "(CC)Z"⟩ ⟨"CurtainRiggersModel", "isHere", "(CC)Z"⟩) ∈ lw_all := lw_g (lw_at lw_ms 66 rfl) rfl
theorem qs67 : (Cond.selects "CurtainRiggersModel" ⟨"CurtainRiggersModel", "does", "(I)V"⟩ ⟨"CurtainRiggersModel", "does", "(I)V"⟩) ∈ lw_all := lw_g (lw_at lw_ms 67 rfl) rfl
