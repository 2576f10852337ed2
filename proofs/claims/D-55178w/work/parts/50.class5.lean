/-! ===== Row (written by tools/class5.py) ===== -/
set_option maxHeartbeats 4000000 in
set_option maxRecDepth 100000 in
theorem ct_X3_size {K : gK} {N : Nat → Prop} {h : AH} {r a d n : Nat} {l : Nat → Nat} {md mo : Int32} (hr : h r = some (.inr (3, [.ref a, .int mo]))) (hl : lsO K N h a d n l md) : gCt K yX3_size w_X3_size 1 20 0 0 h [.ref r] (pR (.int (nI n)) h) := by
  refine g_meth pf_X3_size (nle rfl) (fun p e s m args below meth c F hnm htb => ?_)
  have F : gFix K p s m args meth c cX3_size 1 RX3 (some .int) := F
  refine g_eql (lv' := [(0, .ref r)]) rfl ?_
  refine g_aload_n F dX3_size_0 0 rfl rfl ?_
  refine gf_X3_10_X3 (v := .ref a) F dX3_size_1 hr rfl ?_
  refine g_callV F dX3_size_4 mi_J2_size q310 q311 q312 gc_J2 (hl).1 (ct_J2_size (hl).1) rfl rfl (nle rfl) (nle rfl) (nle rfl) (g_pur ?_) g_purX
  exact g_iret F dX3_size_7 (⟨rfl, rfl⟩)
set_option maxHeartbeats 4000000 in
set_option maxRecDepth 100000 in
theorem ct_X3_get {K : gK} {N : Nat → Prop} {h : AH} {r a d n : Nat} {l : Nat → Nat} {md mo : Int32} (hr : h r = some (.inr (3, [.ref a, .int mo]))) (hl : lsO K N h a d n l md) {x : Int32} {i : Nat} (hx : x = nI i) (hi : i < n) (hm : ∀ i, i < n → gNum h (l i)) : gCt K yX3_get w_X3_get 3 64 0 0 h [.ref r, .int x] (pR (.ref (l i)) h) := by
  refine g_meth pf_X3_get (nle rfl) (fun p e s m args below meth c F hnm htb => ?_)
  have F : gFix K p s m args meth c cX3_get 2 RX3 (some (.object "CurtainRiggers$Numbered")) := F
  refine g_eql (lv' := [(0, .ref r), (1, .int x)]) rfl ?_
  refine g_aload_n F dX3_get_0 0 rfl rfl ?_
  refine gf_X3_10_X3 (v := .ref a) F dX3_get_1 hr rfl ?_
  refine g_iload_n F dX3_get_4 1 rfl rfl ?_
  refine g_callV F dX3_get_5 mi_J2_get q1178 q402 q403 gc_J2 (hl).1 (ct_J2_getL hl hx hi) rfl rfl (nle rfl) (nle rfl) (nle rfl) (g_pur ?_) g_purX
  refine g_castNm F q508 (hm i hi) dX3_get_8 ?_
  exact g_aret F dX3_get_11 (Or.inl ⟨_, rfl⟩) (Or.inr ⟨_, rfl⟩) (⟨rfl, rfl⟩)
set_option maxHeartbeats 4000000 in
set_option maxRecDepth 100000 in
theorem ct_X3_checkRoom {K : gK} {N : Nat → Prop} {h : AH} {r a d n : Nat} {l : Nat → Nat} {md mo : Int32} (hr : h r = some (.inr (3, [.ref a, .int mo]))) (hl : lsO K N h a d n l md) (hm : nI n < mo) : gCt K yX3_checkRoom w_X3_checkRoom 1 20 0 0 h [.ref r] (pV h) := by
  refine g_meth pf_X3_checkRoom (nle rfl) (fun p e s m args below meth c F hnm htb => ?_)
  have F : gFix K p s m args meth c cX3_checkRoom 1 RX3 none := F
  refine g_eql (lv' := [(0, .ref r)]) rfl ?_
  refine g_aload_n F dX3_checkRoom_0 0 rfl rfl ?_
  refine gf_X3_10_X3 (v := .ref a) F dX3_checkRoom_1 hr rfl ?_
  refine g_callV F dX3_checkRoom_4 mi_J2_size q310 q311 q312 gc_J2 (hl).1 (ct_J2_size (hl).1) rfl rfl (nle rfl) (nle rfl) (nle rfl) (g_pur ?_) g_purX
  refine g_aload_n F dX3_checkRoom_7 0 rfl rfl ?_
  refine gf_X3_16_X3 (v := .int mo) F dX3_checkRoom_8 hr rfl ?_
  refine g_icmp_ge (tgt := 18) F dX3_checkRoom_11 (by decide) (fun c8 => absurd c8 ((Int32.not_le.mpr hm))) (fun c8 => ?_)
  refine g_iconst (v := 1) F dX3_checkRoom_14 rfl ?_
  refine g_goto (tgt := 19) F dX3_checkRoom_15 (by decide) ?_
  refine g_callSN F dX3_checkRoom_19 mi_X1_checkState q1542 q1543 (ct_X1_checkState (by decide)) rfl rfl (nle rfl) (nle rfl) (nle rfl) (g_purv ?_) g_purvX
  exact g_vret F dX3_checkRoom_22 (⟨rfl, rfl⟩)
set_option maxHeartbeats 4000000 in
set_option maxRecDepth 100000 in
theorem cx_X3_checkRoom {K : gK} {N : Nat → Prop} {h : AH} {r a d n : Nat} {l : Nat → Nat} {md mo : Int32} (hr : h r = some (.inr (3, [.ref a, .int mo]))) (hl : lsO K N h a d n l md) (hm : mo ≤ nI n) : gCt K yX3_checkRoom w_X3_checkRoom 7 101 1 6 h [.ref r] (pX (tX h 24 [])) := by
  refine g_meth pf_X3_checkRoom (nle rfl) (fun p e s m args below meth c F hnm htb => ?_)
  have F : gFix K p s m args meth c cX3_checkRoom 1 RX3 none := F
  refine g_eql (lv' := [(0, .ref r)]) rfl ?_
  refine g_aload_n F dX3_checkRoom_0 0 rfl rfl ?_
  refine gf_X3_10_X3 (v := .ref a) F dX3_checkRoom_1 hr rfl ?_
  refine g_callV F dX3_checkRoom_4 mi_J2_size q310 q311 q312 gc_J2 (hl).1 (ct_J2_size (hl).1) rfl rfl (nle rfl) (nle rfl) (nle rfl) (g_pur ?_) g_purX
  refine g_aload_n F dX3_checkRoom_7 0 rfl rfl ?_
  refine gf_X3_16_X3 (v := .int mo) F dX3_checkRoom_8 hr rfl ?_
  refine g_icmp_ge (tgt := 18) F dX3_checkRoom_11 (by decide) (fun c8 => ?_) (fun c8 => absurd c8 ((fun z => z hm)))
  refine g_iconst (v := 0) F dX3_checkRoom_18 rfl ?_
  refine g_callSN (b := 0) (bs := 0) F dX3_checkRoom_19 mi_X1_checkState q1542 q1543 cx_X1_checkState rfl rfl (nle rfl) (nle rfl) (nle rfl) g_pXV (g_pXX (fun q12 h_13 x14 o15 => ?_))
  have x16 := gE.tr gE.rf x14.2
  exact gx_out F (fun x hx => (htb x hx).elim) gc_J23 x14.1 o15 (⟨_, rfl, x14.1, x16⟩)
set_option maxHeartbeats 4000000 in
set_option maxRecDepth 100000 in
theorem ct_X3_iterator {K : gK} {h : AH} {r : Nat} : gCt K yX3_iterator w_X3_iterator 2 33 1 2 h [.ref r] (pO (nwO K h (.inr (13, [.int 0, .ref r])))) := by
  refine g_meth pf_X3_iterator (nle rfl) (fun p e s m args below meth c F hnm htb => ?_)
  have F : gFix K p s m args meth c cX3_iterator 1 RX3 (some (.object "java/util/Iterator")) := F
  refine g_eql (lv' := [(0, .ref r)]) rfl ?_
  refine g_new (fs := [.int 0, .null]) (b := 0) (bs := 0) F in_X13 tyX13 tyX13_ok q747 q748 q105 gc_X13 nf_X13 dX3_iterator_0 (fun q1 h_2 hn_e3 ho_e3 e3 => ?_)
  have w4 := gE.no gE.rf hn_e3
  have x5 := gE.new1 gE.rf e3 hn_e3
  have f6 := gu_a e3
  refine g_dup F dX3_iterator_3 rfl ?_
  refine g_aload_n F dX3_iterator_4 0 rfl rfl ?_
  refine g_callIN F dX3_iterator_5 mi_X13_init rfl q749 q750 (ct_X13_init f6 ho_e3) rfl rfl (nle rfl) (nle rfl) (nle rfl) (g_purv ?_) g_purvX
  refine g_gen (fun h_14 e15 => ?_)
  have x16 := gE.wr1 x5 e15 w4
  have e17 := (by rw [e15, e3, gu_gu] : h_14 = gu h q1 _)
  have f18 := gu_a e15
  exact g_aret F dX3_iterator_8 (Or.inl ⟨_, rfl⟩) (Or.inr ⟨_, rfl⟩) (⟨_, rfl, _, rfl, hn_e3, ho_e3, by rw [e15, e3, gu_gu]⟩)
set_option maxHeartbeats 4000000 in
set_option maxRecDepth 100000 in
theorem ct_X13_hasNext {K : gK} {N : Nat → Prop} {h : AH} {r a d n : Nat} {l : Nat → Nat} {md mo : Int32} (hr : h r = some (.inr (3, [.ref a, .int mo]))) (hl : lsO K N h a d n l md) {s0 k : Nat} (hs : h s0 = some (.inr (13, [.int (nI k), .ref r]))) (hk : k < 2 ^ 31) : gCt K yX13_hasNext w_X13_hasNext 1 20 0 0 h [.ref s0] (pR (.int (if k < n then 1 else 0)) h) := by
  refine g_meth pf_X13_hasNext (nle rfl) (fun p e s m args below meth c F hnm htb => ?_)
  have F : gFix K p s m args meth c cX13_hasNext 1 RX13 (some .boolean) := F
  refine g_eql (lv' := [(0, .ref s0)]) rfl ?_
  refine g_aload_n F dX13_hasNext_0 0 rfl rfl ?_
  refine gf_X13_13_X13 (v := .int (nI k)) F dX13_hasNext_1 hs rfl ?_
  refine g_aload_n F dX13_hasNext_4 0 rfl rfl ?_
  refine gf_X13_1_X13 (v := .ref r) F dX13_hasNext_5 hs rfl ?_
  refine gf_X13_17_X3 (v := .ref a) F dX13_hasNext_8 hr rfl ?_
  refine g_callV F dX13_hasNext_11 mi_J2_size q375 q311 q312 gc_J2 (hl).1 (ct_J2_size (hl).1) rfl rfl (nle rfl) (nle rfl) (nle rfl) (g_pur ?_) g_purX
  refine g_icmp_ge (tgt := 21) F dX13_hasNext_14 (by decide) (fun c8 => ?_) (fun c8 => ?_)
  · have d0 : ¬ k < n := Nat.not_lt.mpr ((nI_leI (by have := hl.2.2.1; omega) hk).mp c8)
    refine g_iconst (v := 0) F dX13_hasNext_21 rfl ?_
    exact g_zret F dX13_hasNext_22 (by first | rfl | exact mIn_n | (split <;> rfl) | decide) (⟨by simp [d0], rfl⟩)
  · have d0 : k < n := Nat.not_le.mp (fun z => c8 (nI_le z hk))
    refine g_iconst (v := 1) F dX13_hasNext_17 rfl ?_
    refine g_goto (tgt := 22) F dX13_hasNext_18 (by decide) ?_
    exact g_zret F dX13_hasNext_22 (by first | rfl | exact mIn_n | (split <;> rfl) | decide) (⟨by simp [d0], rfl⟩)
set_option maxHeartbeats 4000000 in
set_option maxRecDepth 100000 in
theorem ct_X13_next_2 {K : gK} {N : Nat → Prop} {h : AH} {r a d n : Nat} {l : Nat → Nat} {md mo : Int32} (hr : h r = some (.inr (3, [.ref a, .int mo]))) (hl : lsO K N h a d n l md) {s0 k : Nat} (hs : h s0 = some (.inr (13, [.int (nI k), .ref r]))) (hso : gOld K s0 = none) (hk : k < n) (hm : ∀ i, i < n → gNum h (l i)) : gCt K yX13_next_2 w_X13_next_2 3 64 0 0 h [.ref s0] (pR (.ref (l k)) (gu h s0 (.inr (13, [.int (nI (k + 1)), .ref r])))) := by
  refine g_meth pf_X13_next_2 (nle rfl) (fun p e s m args below meth c F hnm htb => ?_)
  have F : gFix K p s m args meth c cX13_next_2 1 RX13 (some (.object "CurtainRiggers$Numbered")) := F
  refine g_eql (lv' := [(0, .ref s0)]) rfl ?_
  refine g_aload_n F dX13_next_2_0 0 rfl rfl ?_
  refine g_dup F dX13_next_2_1 rfl ?_
  refine gf_X13_13_X13 (v := .int (nI k)) F dX13_next_2_2 hs rfl ?_
  refine g_iconst (v := 1) F dX13_next_2_5 rfl ?_
  refine g_iadd F dX13_next_2_6 ?_
  refine g_eqs (st' := [.int (nI (k + 1)), .ref s0]) (by rw [nI_1]) ?_
  refine gp_X13_13_X13 (fs' := [.int (nI (k + 1)), .ref r]) F dX13_next_2_7 hs hso (nle rfl) rfl (fun h_1 e2 => ?_)
  have f3 := gu_t e2 hr (gne hr hs (by decide))
  have t4 := lsO.oth e2 hs (by decide) hl
  have f5 := gu_a e2
  refine g_aload_n F dX13_next_2_10 0 rfl rfl ?_
  refine gf_X13_1_X13 (v := .ref r) F dX13_next_2_11 f5 rfl ?_
  refine gf_X13_17_X3 (v := .ref a) F dX13_next_2_14 f3 rfl ?_
  refine g_aload_n F dX13_next_2_17 0 rfl rfl ?_
  refine gf_X13_13_X13 (v := .int (nI (k + 1))) F dX13_next_2_18 f5 rfl ?_
  refine g_iconst (v := 1) F dX13_next_2_21 rfl ?_
  refine g_isub F dX13_next_2_22 ?_
  refine g_eqs (st' := [.int (nI k), .ref a]) (by rw [nI_pred]) ?_
  refine g_callV F dX13_next_2_23 mi_J2_get q401 q402 q403 gc_J2 (t4).1 (ct_J2_getL t4 rfl hk) rfl rfl (nle rfl) (nle rfl) (nle rfl) (g_pur ?_) g_purX
  refine g_castNm F q415 (gNum_st e2 hs (hm k hk)) dX13_next_2_26 ?_
  exact g_aret F dX13_next_2_29 (Or.inl ⟨_, rfl⟩) (Or.inr ⟨_, rfl⟩) (⟨rfl, by rw [e2]⟩)
set_option maxHeartbeats 4000000 in
set_option maxRecDepth 100000 in
theorem ct_X13_next {K : gK} {N : Nat → Prop} {h : AH} {r a d n : Nat} {l : Nat → Nat} {md mo : Int32} (hr : h r = some (.inr (3, [.ref a, .int mo]))) (hl : lsO K N h a d n l md) {s0 k : Nat} (hs : h s0 = some (.inr (13, [.int (nI k), .ref r]))) (hso : gOld K s0 = none) (hk : k < n) (hm : ∀ i, i < n → gNum h (l i)) : gCt K yX13_next w_X13_next 4 84 0 0 h [.ref s0] (pR (.ref (l k)) (gu h s0 (.inr (13, [.int (nI (k + 1)), .ref r])))) := by
  refine g_meth pf_X13_next (nle rfl) (fun p e s m args below meth c F hnm htb => ?_)
  have F : gFix K p s m args meth c cX13_next 1 RX13 (some (.object "java/lang/Object")) := F
  refine g_eql (lv' := [(0, .ref s0)]) rfl ?_
  refine g_aload_n F dX13_next_0 0 rfl rfl ?_
  refine g_callV F dX13_next_1 mi_X13_next_2 q397 q398 q399 gc_X13 hs (ct_X13_next_2 hr hl hs hso hk hm) rfl rfl (nle rfl) (nle rfl) (nle rfl) (g_pur ?_) g_purX
  refine g_gen (fun h_8 e9 => ?_)
  have f10 := gu_t e9 hr (gne hr hs (by decide))
  have t11 := lsO.oth e9 hs (by decide) hl
  have f12 := gu_a e9
  exact g_aret F dX13_next_4 (Or.inl ⟨_, rfl⟩) (Or.inr ⟨_, rfl⟩) (⟨rfl, by rw [e9]⟩)
set_option maxHeartbeats 4000000 in
set_option maxRecDepth 100000 in
theorem ct_X3_init {K : gK} {h : AH} {r : Nat} {mo : Int32} (hr : h r = some (.inr (3, [.null, .int 0]))) (hro : gOld K r = none) : gCt K yX3_init w_X3_init 4 72 1 3 h [.ref r, .int mo] (pO (fun v h9 => v = none ∧ ∃ a, h a = none ∧ gOld K a = none ∧ h9 = gu (gu h a (.inr (4, [.int 0, .ref (gAd K 203), .int 0]))) r (.inr (3, [.ref a, .int mo])))) := by
  refine g_meth pf_X3_init (nle rfl) (fun p e s m args below meth c F hnm htb => ?_)
  have F : gFix K p s m args meth c cX3_init 2 RX3 none := F
  refine g_eql (lv' := [(0, .ref r), (1, .int mo)]) rfl ?_
  refine g_aload_n F dX3_init_0 0 rfl rfl ?_
  refine g_objInit F q137 q124 q125 dX3_init_1 (nle rfl) (nle rfl) ?_
  refine g_aload_n F dX3_init_4 0 rfl rfl ?_
  refine g_new (fs := [.int 0, .null, .int 0]) (b := 0) (bs := 0) F in_J2 tyJ2 tyJ2_ok q138 q139 q74 gc_J2 nf_J2 dX3_init_5 (fun q1 h_2 hn_e3 ho_e3 e3 => ?_)
  have d4 := gnew hn_e3 hr
  have f5 := gu_t e3 hr d4
  have f6 := gu_a e3
  refine g_dup F dX3_init_8 rfl ?_
  refine g_callI F dX3_init_9 mi_J2_init rfl q140 q141 (ct_J2_init f6 ho_e3) rfl rfl (nle rfl) (nle rfl) (nle rfl) (g_purv ?_) g_purvX
  refine g_gen (fun h_14 e15 => ?_)
  have e16 := (by rw [e15, e3, gu_gu] : h_14 = gu h q1 _)
  have f17 := gu_t e15 f5 d4
  have f18 := gu_a e15
  refine gp_X3_10_X3 (fs' := [.ref q1, .int 0]) F hnm dX3_init_12 (Or.inr ⟨_, rfl⟩) f17 hro (nle rfl) rfl (fun h_19 e20 => ?_)
  have f21 := gu_t e20 f18 (Ne.symm d4)
  have f22 := gu_a e20
  refine g_aload_n F dX3_init_15 0 rfl rfl ?_
  refine g_iload_n F dX3_init_16 1 rfl rfl ?_
  refine gp_X3_16_X3 (fs' := [.ref q1, .int mo]) F hnm dX3_init_17 f22 hro (nle rfl) rfl (fun h_23 e24 => ?_)
  have f25 := gu_t e24 f21 (Ne.symm d4)
  have f26 := gu_a e24
  exact g_vret F dX3_init_20 (⟨none, rfl, rfl, q1, hn_e3, ho_e3, by rw [e24, e20, e15, e3]; simp only [gu_gu]⟩)
set_option maxHeartbeats 4000000 in
set_option maxRecDepth 100000 in
theorem ct_X9_checked {K : gK} {N : Nat → Prop} {h : AH} {r a d n : Nat} {l : Nat → Nat} {md mo : Int32} (hr : h r = some (.inr (3, [.ref a, .int mo]))) (hl : lsO K N h a d n l md) (hm : ∀ i, i < n → gNum h (l i)) {i : Nat} (hi : i < n) : gCt K yX9_checked w_X9_checked 4 85 0 0 h [.ref r, .int (nI i)] (pR (.ref (l i)) h) := by
  refine g_meth pf_X9_checked (nle rfl) (fun p e s m args below meth c F hnm htb => ?_)
  have F : gFix K p s m args meth c cX9_checked 2 RX9 (some (.object "CurtainRiggers$Numbered")) := F
  refine g_eql (lv' := [(0, .ref r), (1, .int (nI i))]) rfl ?_
  refine g_iload_n F dX9_checked_0 1 rfl rfl ?_
  refine g_i2l F dX9_checked_1 rfl ?_
  refine g_lconst (v := 0) F dX9_checked_2 rfl ?_
  refine g_aload_n F dX9_checked_3 0 rfl rfl ?_
  refine g_callV F dX9_checked_4 mi_X3_size q1458 q307 q308 gc_X3 hr (ct_X3_size hr hl) rfl rfl (nle rfl) (nle rfl) (nle rfl) (g_pur ?_) g_purX
  refine g_iconst (v := 1) F dX9_checked_7 rfl ?_
  refine g_isub F dX9_checked_8 ?_
  refine g_i2l F dX9_checked_9 rfl ?_
  refine g_eqs (st' := [.long (((nI n) - 1).toInt64), .long (Int32.toInt64 0), .long ((nI i).toInt64)]) rfl ?_
  refine g_callSN F dX9_checked_10 mi_X1_inRange q1459 q1460 (ct_X1_inRange (x := nI i) (lo := 0) (hi := (nI n) - 1)) rfl rfl (nle rfl) (nle rfl) (nle rfl) (g_pur ?_) g_purX
  refine g_eqs (st' := [.int 1]) (by rw [xAt_n (by have := hl.2.2.1; omega) hi]) ?_
  refine g_callSN F dX9_checked_13 mi_X1_checkIndex q1462 q1463 (ct_X1_checkIndex (by decide)) rfl rfl (nle rfl) (nle rfl) (nle rfl) (g_purv ?_) g_purvX
  refine g_aload_n F dX9_checked_16 0 rfl rfl ?_
  refine g_iload_n F dX9_checked_17 1 rfl rfl ?_
  refine g_callV F dX9_checked_18 mi_X3_get q1470 q1175 q1176 gc_X3 hr (ct_X3_get hr hl rfl hi hm) rfl rfl (nle rfl) (nle rfl) (nle rfl) (g_pur ?_) g_purX
  exact g_aret F dX9_checked_21 (Or.inl ⟨_, rfl⟩) (Or.inr ⟨_, rfl⟩) (⟨rfl, rfl⟩)
set_option maxHeartbeats 4000000 in
set_option maxRecDepth 100000 in
theorem cx_X9_checked {K : gK} {N : Nat → Prop} {h : AH} {r a d n : Nat} {l : Nat → Nat} {md mo : Int32} (hr : h r = some (.inr (3, [.ref a, .int mo]))) (hl : lsO K N h a d n l md) {x : Int32} (hx : mIn x 0 (nI n - 1) = 0) : gCt K yX9_checked w_X9_checked 7 101 1 6 h [.ref r, .int x] (pX (tX h 23 [])) := by
  refine g_meth pf_X9_checked (nle rfl) (fun p e s m args below meth c F hnm htb => ?_)
  have F : gFix K p s m args meth c cX9_checked 2 RX9 (some (.object "CurtainRiggers$Numbered")) := F
  refine g_eql (lv' := [(0, .ref r), (1, .int x)]) rfl ?_
  refine g_iload_n F dX9_checked_0 1 rfl rfl ?_
  refine g_i2l F dX9_checked_1 rfl ?_
  refine g_lconst (v := 0) F dX9_checked_2 rfl ?_
  refine g_aload_n F dX9_checked_3 0 rfl rfl ?_
  refine g_callV F dX9_checked_4 mi_X3_size q1458 q307 q308 gc_X3 hr (ct_X3_size hr hl) rfl rfl (nle rfl) (nle rfl) (nle rfl) (g_pur ?_) g_purX
  refine g_iconst (v := 1) F dX9_checked_7 rfl ?_
  refine g_isub F dX9_checked_8 ?_
  refine g_i2l F dX9_checked_9 rfl ?_
  refine g_eqs (st' := [.long (((nI n) - 1).toInt64), .long (Int32.toInt64 0), .long x.toInt64]) rfl ?_
  refine g_callSN F dX9_checked_10 mi_X1_inRange q1459 q1460 (ct_X1_inRange (x := x) (lo := 0) (hi := (nI n) - 1)) rfl rfl (nle rfl) (nle rfl) (nle rfl) (g_pur ?_) g_purX
  refine g_eqs (st' := [.int 0]) (by rw [hx]) ?_
  refine g_callSN (b := 0) (bs := 0) F dX9_checked_13 mi_X1_checkIndex q1462 q1463 cx_X1_checkIndex rfl rfl (nle rfl) (nle rfl) (nle rfl) g_pXV (g_pXX (fun q18 h_19 x20 o21 => ?_))
  have x22 := gE.tr gE.rf x20.2
  exact gx_out F (fun x hx => (htb x hx).elim) gc_J21 x20.1 o21 (⟨_, rfl, x20.1, x22⟩)
