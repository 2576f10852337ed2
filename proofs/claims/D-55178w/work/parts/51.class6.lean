/-! ===== Row.add, copies (written by tools/class6.py) ===== -/
set_option maxHeartbeats 4000000 in
set_option maxRecDepth 100000 in
theorem ct_X3_add {K : gK} {h0 h : AH} {r a d n y : Nat} {l : Nat → Nat} {md mo : Int32} (hr : h r = some (.inr (3, [.ref a, .int mo]))) (hl : lsO K (gNw K h0) h a d n l md) (hE : gE h0 h) (hn : n < 15) (hob : ∀ i, i < n → gOb h (l i)) (hy : gOb h y) (hKA : gKA K) (hm : nI n < mo) : gCt K yX3_add w_X3_add 7 158 1 15 h [.ref r, .ref y] (pO (fun v h9 => v = some (.int (nI n)) ∧ lsG K h0 h a d (n + 1) (lsP l n y) h9)) := by
  refine g_meth pf_X3_add (nle rfl) (fun p e s m args below meth c F hnm htb => ?_)
  have F : gFix K p s m args meth c cX3_add 3 RX3 (some .int) := F
  refine g_eql (lv' := [(0, .ref r), (1, .ref y)]) rfl ?_
  refine g_aload_n F dX3_add_0 0 rfl rfl ?_
  refine g_callV F dX3_add_1 mi_X3_checkRoom q1538 q1539 q1540 gc_X3 hr (ct_X3_checkRoom hr hl hm) rfl rfl (nle rfl) (nle rfl) (nle rfl) (g_purv ?_) g_purvX
  refine g_aload_n F dX3_add_4 0 rfl rfl ?_
  refine gf_X3_10_X3 (v := .ref a) F dX3_add_5 hr rfl ?_
  refine g_aload_n F dX3_add_8 1 rfl rfl ?_
  refine g_callV (b := 0) (bs := 0) F dX3_add_9 mi_J2_add q644 q645 q646 gc_J2 (hl).1 (ct_J2_addL (h0 := h0) hl hE hn hob hy hKA) rfl rfl (nle rfl) (nle rfl) (nle rfl) (g_pO (fun v8 h_9 p10 => ?_)) g_pOX
  obtain ⟨rfl, p10⟩ := p10
  have x15 := lsG.E p10
  have f16 := lsG.ob p10 hl hr (by decide)
  have p10k := p10; obtain ⟨d17, m18, l19, -, hd_d17, hk_d17⟩ := p10
  refine g_eqs (st' := [.int 1]) rfl ?_
  refine g_istore_n (lv' := [(2, .int 1), (0, .ref r), (1, .ref y)]) F dX3_add_12 rfl (by decide) rfl ?_
  refine g_aload_n F dX3_add_13 1 rfl rfl ?_
  refine gf_X3_10_X3 (v := .ref a) F dX3_add_14 f16 rfl ?_
  refine g_callV F dX3_add_17 mi_J2_size q310 q311 q312 gc_J2 (l19).1 (ct_J2_size (l19).1) rfl rfl (nle rfl) (nle rfl) (nle rfl) (g_pur ?_) g_purX
  refine g_iconst (v := 1) F dX3_add_20 rfl ?_
  refine g_isub F dX3_add_21 ?_
  refine g_eqs (st' := [.int (nI n)]) (by rw [nI_pred]) ?_
  exact g_iret F dX3_add_22 (⟨_, rfl, rfl, p10k⟩)
set_option maxHeartbeats 4000000 in
set_option maxRecDepth 100000 in
theorem cx_X3_add {K : gK} {N : Nat → Prop} {h : AH} {r a d n y : Nat} {l : Nat → Nat} {md mo : Int32} (hr : h r = some (.inr (3, [.ref a, .int mo]))) (hl : lsO K N h a d n l md) (hm : mo ≤ nI n) : gCt K yX3_add w_X3_add 8 121 1 6 h [.ref r, .ref y] (pX (tX h 24 [])) := by
  refine g_meth pf_X3_add (nle rfl) (fun p e s m args below meth c F hnm htb => ?_)
  have F : gFix K p s m args meth c cX3_add 3 RX3 (some .int) := F
  refine g_eql (lv' := [(0, .ref r), (1, .ref y)]) rfl ?_
  refine g_aload_n F dX3_add_0 0 rfl rfl ?_
  refine g_callV (b := 0) (bs := 0) F dX3_add_1 mi_X3_checkRoom q1538 q1539 q1540 gc_X3 hr (cx_X3_checkRoom hr hl hm) rfl rfl (nle rfl) (nle rfl) (nle rfl) g_pXV (g_pXX (fun q4 h_5 x6 o7 => ?_))
  have x8 := gE.tr gE.rf x6.2
  exact gx_out F (fun x hx => (htb x hx).elim) gc_J23 x6.1 o7 (⟨_, rfl, x6.1, x8⟩)
set_option maxHeartbeats 4000000 in
set_option maxRecDepth 100000 in
theorem ct_X5_copy_2 {K : gK} {h : AH} {a : Nat} {b0 b1 b2 b3 b4 b5 b6 : Int32} (ha : h a = some (.inr (9, [.int b0, .int b1, .int b2, .int b3, .int b4, .int b5, .int b6]))) : gCt K yX5_copy_2 w_X5_copy_2 2 33 1 7 h [.ref a] (pO (nwO K h (.inr (9, [.int b0, .int b1, .int b2, .int b3, .int b4, .int b5, .int b6])))) := by
  refine g_meth pf_X5_copy_2 (nle rfl) (fun p e s m args below meth c F hnm htb => ?_)
  have F : gFix K p s m args meth c cX5_copy_2 2 RX5 (some (.object "CurtainRiggers$Bar")) := F
  refine g_eql (lv' := [(0, .ref a)]) rfl ?_
  refine g_new (fs := [.int 0, .int 0, .int 0, .int 0, .int 0, .int 0, .int 0]) (b := 0) (bs := 0) F in_X5 tyX5 tyX5_ok q523 q524 q88 gc_X5 nf_X5 dX5_copy_2_0 (fun q1 h_2 hn_e3 ho_e3 e3 => ?_)
  have w4 := gE.no gE.rf hn_e3
  have x5 := gE.new1 gE.rf e3 hn_e3
  have f6 := gu_a e3
  refine g_dup F dX5_copy_2_3 rfl ?_
  refine g_aload_n F dX5_copy_2_4 0 rfl rfl ?_
  refine gf_X5_9_X5 (v := .int b0) F dX5_copy_2_5 (x5 _ _ ha) rfl ?_
  refine g_callI F dX5_copy_2_8 mi_X5_init rfl q525 q526 (ct_X5_init f6 ho_e3) rfl rfl (nle rfl) (nle rfl) (nle rfl) (g_purv ?_) g_purvX
  refine g_gen (fun h_14 e15 => ?_)
  have x16 := gE.wr1 x5 e15 w4
  have e17 := (by rw [e15, e3, gu_gu] : h_14 = gu h q1 _)
  have f18 := gu_a e15
  refine g_astore_n (lv' := [(1, .ref q1), (0, .ref a)]) F dX5_copy_2_11 rfl (by decide) rfl ?_
  refine g_aload_n F dX5_copy_2_12 0 rfl rfl ?_
  refine g_aload_n F dX5_copy_2_13 1 rfl rfl ?_
  refine gf_X5_18_X5 (v := .int b1) F dX5_copy_2_14 (x16 _ _ ha) rfl ?_
  refine gp_X5_18_X5 (fs' := [.int b0, .int b1, .int 0, .int 0, .int 0, .int 0, .int 0]) F dX5_copy_2_17 f18 ho_e3 (nle rfl) rfl (fun h_19 e20 => ?_)
  have x21 := gE.wr1 x16 e20 w4
  have e22 := (by rw [e20, e17, gu_gu] : h_19 = gu h q1 _)
  have f23 := gu_a e20
  refine g_aload_n F dX5_copy_2_20 0 rfl rfl ?_
  refine g_aload_n F dX5_copy_2_21 1 rfl rfl ?_
  refine gf_X5_21_X5 (v := .int b2) F dX5_copy_2_22 (x21 _ _ ha) rfl ?_
  refine gp_X5_21_X5 (fs' := [.int b0, .int b1, .int b2, .int 0, .int 0, .int 0, .int 0]) F dX5_copy_2_25 f23 ho_e3 (nle rfl) rfl (fun h_24 e25 => ?_)
  have x26 := gE.wr1 x21 e25 w4
  have e27 := (by rw [e25, e22, gu_gu] : h_24 = gu h q1 _)
  have f28 := gu_a e25
  refine g_aload_n F dX5_copy_2_28 0 rfl rfl ?_
  refine g_aload_n F dX5_copy_2_29 1 rfl rfl ?_
  refine gf_X5_24_X5 (v := .int b3) F dX5_copy_2_30 (x26 _ _ ha) rfl ?_
  refine gp_X5_24_X5 (fs' := [.int b0, .int b1, .int b2, .int b3, .int 0, .int 0, .int 0]) F dX5_copy_2_33 f28 ho_e3 (nle rfl) rfl (fun h_29 e30 => ?_)
  have x31 := gE.wr1 x26 e30 w4
  have e32 := (by rw [e30, e27, gu_gu] : h_29 = gu h q1 _)
  have f33 := gu_a e30
  refine g_aload_n F dX5_copy_2_36 0 rfl rfl ?_
  refine g_aload_n F dX5_copy_2_37 1 rfl rfl ?_
  refine gf_X5_27_X5 (v := .int b4) F dX5_copy_2_38 (x31 _ _ ha) rfl ?_
  refine gp_X5_27_X5 (fs' := [.int b0, .int b1, .int b2, .int b3, .int b4, .int 0, .int 0]) F dX5_copy_2_41 f33 ho_e3 (nle rfl) rfl (fun h_34 e35 => ?_)
  have x36 := gE.wr1 x31 e35 w4
  have e37 := (by rw [e35, e32, gu_gu] : h_34 = gu h q1 _)
  have f38 := gu_a e35
  refine g_aload_n F dX5_copy_2_44 0 rfl rfl ?_
  refine g_aload_n F dX5_copy_2_45 1 rfl rfl ?_
  refine gf_X5_30_X5 (v := .int b5) F dX5_copy_2_46 (x36 _ _ ha) rfl ?_
  refine gp_X5_30_X5 (fs' := [.int b0, .int b1, .int b2, .int b3, .int b4, .int b5, .int 0]) F dX5_copy_2_49 f38 ho_e3 (nle rfl) rfl (fun h_39 e40 => ?_)
  have x41 := gE.wr1 x36 e40 w4
  have e42 := (by rw [e40, e37, gu_gu] : h_39 = gu h q1 _)
  have f43 := gu_a e40
  refine g_aload_n F dX5_copy_2_52 0 rfl rfl ?_
  refine g_aload_n F dX5_copy_2_53 1 rfl rfl ?_
  refine gf_X5_33_X5 (v := .int b6) F dX5_copy_2_54 (x41 _ _ ha) rfl ?_
  refine gp_X5_33_X5 (fs' := [.int b0, .int b1, .int b2, .int b3, .int b4, .int b5, .int b6]) F dX5_copy_2_57 f43 ho_e3 (nle rfl) rfl (fun h_44 e45 => ?_)
  have x46 := gE.wr1 x41 e45 w4
  have e47 := (by rw [e45, e42, gu_gu] : h_44 = gu h q1 _)
  have f48 := gu_a e45
  refine g_aload_n F dX5_copy_2_60 0 rfl rfl ?_
  exact g_aret F dX5_copy_2_61 (Or.inl ⟨_, rfl⟩) (Or.inr ⟨_, rfl⟩) (⟨_, rfl, _, rfl, hn_e3, ho_e3, by rw [e45, e40, e35, e30, e25, e20, e15, e3, gu_gu, gu_gu, gu_gu, gu_gu, gu_gu, gu_gu, gu_gu]⟩)
set_option maxHeartbeats 4000000 in
set_option maxRecDepth 100000 in
theorem ct_X5_copy {K : gK} {h : AH} {a : Nat} {b0 b1 b2 b3 b4 b5 b6 : Int32} (ha : h a = some (.inr (9, [.int b0, .int b1, .int b2, .int b3, .int b4, .int b5, .int b6]))) : gCt K yX5_copy w_X5_copy 3 54 1 7 h [.ref a] (pO (nwO K h (.inr (9, [.int b0, .int b1, .int b2, .int b3, .int b4, .int b5, .int b6])))) := by
  refine g_meth pf_X5_copy (nle rfl) (fun p e s m args below meth c F hnm htb => ?_)
  have F : gFix K p s m args meth c cX5_copy 1 RX5 (some (.object "CurtainRiggers$Numbered")) := F
  refine g_eql (lv' := [(0, .ref a)]) rfl ?_
  refine g_aload_n F dX5_copy_0 0 rfl rfl ?_
  refine g_callV (b := 0) (bs := 0) F dX5_copy_1 mi_X5_copy_2 q519 q520 q521 gc_X5 ha (ct_X5_copy_2 ha) rfl rfl (nle rfl) (nle rfl) (nle rfl) (g_pO (fun v1 h_2 p3 => ?_)) g_pOX
  obtain ⟨q8, rfl, hn_e9, ho_e9, e9⟩ := p3
  have w10 := gE.no gE.rf hn_e9
  have x11 := gE.new1 gE.rf e9 hn_e9
  have f12 := gu_a e9
  refine g_eqs (st' := [.ref q8]) rfl ?_
  exact g_aret F dX5_copy_4 (Or.inl ⟨_, rfl⟩) (Or.inr ⟨_, rfl⟩) (⟨_, rfl, _, rfl, hn_e9, ho_e9, by rw [e9]⟩)
set_option maxHeartbeats 4000000 in
set_option maxRecDepth 100000 in
theorem ct_X6_copy_2 {K : gK} {h : AH} {a : Nat} {b0 b1 b2 : Int32} (ha : h a = some (.inr (10, [.int b0, .int b1, .int b2]))) : gCt K yX6_copy_2 w_X6_copy_2 2 34 1 3 h [.ref a] (pO (nwO K h (.inr (10, [.int b0, .int b1, .int b2])))) := by
  refine g_meth pf_X6_copy_2 (nle rfl) (fun p e s m args below meth c F hnm htb => ?_)
  have F : gFix K p s m args meth c cX6_copy_2 2 RX6 (some (.object "CurtainRiggers$Curtain")) := F
  refine g_eql (lv' := [(0, .ref a)]) rfl ?_
  refine g_new (fs := [.int 0, .int 0, .int 0]) (b := 0) (bs := 0) F in_X6 tyX6 tyX6_ok q591 q592 q89 gc_X6 nf_X6 dX6_copy_2_0 (fun q1 h_2 hn_e3 ho_e3 e3 => ?_)
  have w4 := gE.no gE.rf hn_e3
  have x5 := gE.new1 gE.rf e3 hn_e3
  have f6 := gu_a e3
  refine g_dup F dX6_copy_2_3 rfl ?_
  refine g_aload_n F dX6_copy_2_4 0 rfl rfl ?_
  refine gf_X6_15_X6 (v := .int b0) F dX6_copy_2_5 (x5 _ _ ha) rfl ?_
  refine g_aload_n F dX6_copy_2_8 0 rfl rfl ?_
  refine gf_X6_18_X6 (v := .int b1) F dX6_copy_2_9 (x5 _ _ ha) rfl ?_
  refine g_callI F dX6_copy_2_12 mi_X6_init rfl q593 q594 (ct_X6_init f6 ho_e3) rfl rfl (nle rfl) (nle rfl) (nle rfl) (g_purv ?_) g_purvX
  refine g_gen (fun h_14 e15 => ?_)
  have x16 := gE.wr1 x5 e15 w4
  have e17 := (by rw [e15, e3, gu_gu] : h_14 = gu h q1 _)
  have f18 := gu_a e15
  refine g_astore_n (lv' := [(1, .ref q1), (0, .ref a)]) F dX6_copy_2_15 rfl (by decide) rfl ?_
  refine g_aload_n F dX6_copy_2_16 0 rfl rfl ?_
  refine g_aload_n F dX6_copy_2_17 1 rfl rfl ?_
  refine gf_X6_9_X6 (v := .int b2) F dX6_copy_2_18 (x16 _ _ ha) rfl ?_
  refine gp_X6_9_X6 (fs' := [.int b0, .int b1, .int b2]) F dX6_copy_2_21 f18 ho_e3 (nle rfl) rfl (fun h_19 e20 => ?_)
  have x21 := gE.wr1 x16 e20 w4
  have e22 := (by rw [e20, e17, gu_gu] : h_19 = gu h q1 _)
  have f23 := gu_a e20
  refine g_aload_n F dX6_copy_2_24 0 rfl rfl ?_
  exact g_aret F dX6_copy_2_25 (Or.inl ⟨_, rfl⟩) (Or.inr ⟨_, rfl⟩) (⟨_, rfl, _, rfl, hn_e3, ho_e3, by rw [e20, e15, e3, gu_gu, gu_gu]⟩)
set_option maxHeartbeats 4000000 in
set_option maxRecDepth 100000 in
theorem ct_X6_copy {K : gK} {h : AH} {a : Nat} {b0 b1 b2 : Int32} (ha : h a = some (.inr (10, [.int b0, .int b1, .int b2]))) : gCt K yX6_copy w_X6_copy 3 55 1 3 h [.ref a] (pO (nwO K h (.inr (10, [.int b0, .int b1, .int b2])))) := by
  refine g_meth pf_X6_copy (nle rfl) (fun p e s m args below meth c F hnm htb => ?_)
  have F : gFix K p s m args meth c cX6_copy 1 RX6 (some (.object "CurtainRiggers$Numbered")) := F
  refine g_eql (lv' := [(0, .ref a)]) rfl ?_
  refine g_aload_n F dX6_copy_0 0 rfl rfl ?_
  refine g_callV (b := 0) (bs := 0) F dX6_copy_1 mi_X6_copy_2 q587 q588 q589 gc_X6 ha (ct_X6_copy_2 ha) rfl rfl (nle rfl) (nle rfl) (nle rfl) (g_pO (fun v1 h_2 p3 => ?_)) g_pOX
  obtain ⟨q8, rfl, hn_e9, ho_e9, e9⟩ := p3
  have w10 := gE.no gE.rf hn_e9
  have x11 := gE.new1 gE.rf e9 hn_e9
  have f12 := gu_a e9
  refine g_eqs (st' := [.ref q8]) rfl ?_
  exact g_aret F dX6_copy_4 (Or.inl ⟨_, rfl⟩) (Or.inr ⟨_, rfl⟩) (⟨_, rfl, _, rfl, hn_e9, ho_e9, by rw [e9]⟩)
set_option maxHeartbeats 4000000 in
set_option maxRecDepth 100000 in
theorem ct_X7_copy_2 {K : gK} {h : AH} {a : Nat} {b0 b1 b2 : Int32} (ha : h a = some (.inr (11, [.int b0, .int b1, .int b2]))) : gCt K yX7_copy_2 w_X7_copy_2 2 35 1 3 h [.ref a] (pO (nwO K h (.inr (11, [.int b0, .int b1, .int b2])))) := by
  refine g_meth pf_X7_copy_2 (nle rfl) (fun p e s m args below meth c F hnm htb => ?_)
  have F : gFix K p s m args meth c cX7_copy_2 1 RX7 (some (.object "CurtainRiggers$Hand")) := F
  refine g_eql (lv' := [(0, .ref a)]) rfl ?_
  refine g_new (fs := [.int 0, .int 0, .int 0]) (b := 0) (bs := 0) F in_X7 tyX7 tyX7_ok q625 q626 q90 gc_X7 nf_X7 dX7_copy_2_0 (fun q1 h_2 hn_e3 ho_e3 e3 => ?_)
  have w4 := gE.no gE.rf hn_e3
  have x5 := gE.new1 gE.rf e3 hn_e3
  have f6 := gu_a e3
  refine g_dup F dX7_copy_2_3 rfl ?_
  refine g_aload_n F dX7_copy_2_4 0 rfl rfl ?_
  refine gf_X7_7_X7 (v := .int b0) F dX7_copy_2_5 (x5 _ _ ha) rfl ?_
  refine g_aload_n F dX7_copy_2_8 0 rfl rfl ?_
  refine gf_X7_13_X7 (v := .int b1) F dX7_copy_2_9 (x5 _ _ ha) rfl ?_
  refine g_aload_n F dX7_copy_2_12 0 rfl rfl ?_
  refine gf_X7_16_X7 (v := .int b2) F dX7_copy_2_13 (x5 _ _ ha) rfl ?_
  refine g_callI F dX7_copy_2_16 mi_X7_init rfl q627 q628 (ct_X7_init f6 ho_e3) rfl rfl (nle rfl) (nle rfl) (nle rfl) (g_purv ?_) g_purvX
  refine g_gen (fun h_14 e15 => ?_)
  have x16 := gE.wr1 x5 e15 w4
  have e17 := (by rw [e15, e3, gu_gu] : h_14 = gu h q1 _)
  have f18 := gu_a e15
  exact g_aret F dX7_copy_2_19 (Or.inl ⟨_, rfl⟩) (Or.inr ⟨_, rfl⟩) (⟨_, rfl, _, rfl, hn_e3, ho_e3, by rw [e15, e3, gu_gu]⟩)
set_option maxHeartbeats 4000000 in
set_option maxRecDepth 100000 in
theorem ct_X7_copy {K : gK} {h : AH} {a : Nat} {b0 b1 b2 : Int32} (ha : h a = some (.inr (11, [.int b0, .int b1, .int b2]))) : gCt K yX7_copy w_X7_copy 3 55 1 3 h [.ref a] (pO (nwO K h (.inr (11, [.int b0, .int b1, .int b2])))) := by
  refine g_meth pf_X7_copy (nle rfl) (fun p e s m args below meth c F hnm htb => ?_)
  have F : gFix K p s m args meth c cX7_copy 1 RX7 (some (.object "CurtainRiggers$Numbered")) := F
  refine g_eql (lv' := [(0, .ref a)]) rfl ?_
  refine g_aload_n F dX7_copy_0 0 rfl rfl ?_
  refine g_callV (b := 0) (bs := 0) F dX7_copy_1 mi_X7_copy_2 q621 q622 q623 gc_X7 ha (ct_X7_copy_2 ha) rfl rfl (nle rfl) (nle rfl) (nle rfl) (g_pO (fun v1 h_2 p3 => ?_)) g_pOX
  obtain ⟨q8, rfl, hn_e9, ho_e9, e9⟩ := p3
  have w10 := gE.no gE.rf hn_e9
  have x11 := gE.new1 gE.rf e9 hn_e9
  have f12 := gu_a e9
  refine g_eqs (st' := [.ref q8]) rfl ?_
  exact g_aret F dX7_copy_4 (Or.inl ⟨_, rfl⟩) (Or.inr ⟨_, rfl⟩) (⟨_, rfl, _, rfl, hn_e9, ho_e9, by rw [e9]⟩)
set_option maxHeartbeats 4000000 in
set_option maxRecDepth 100000 in
theorem ct_X17_copy_2 {K : gK} {h : AH} {a : Nat} : gCt K yX17_copy_2 w_X17_copy_2 0 0 0 0 h [.ref a] (pR (.ref a) h) := by
  refine g_meth pf_X17_copy_2 (nle rfl) (fun p e s m args below meth c F hnm htb => ?_)
  have F : gFix K p s m args meth c cX17_copy_2 1 RX17 (some (.object "CurtainRiggers$Cue")) := F
  refine g_eql (lv' := [(0, .ref a)]) rfl ?_
  refine g_aload_n F dX17_copy_2_0 0 rfl rfl ?_
  exact g_aret F dX17_copy_2_1 (Or.inl ⟨_, rfl⟩) (Or.inr ⟨_, rfl⟩) (⟨rfl, rfl⟩)
set_option maxHeartbeats 4000000 in
set_option maxRecDepth 100000 in
theorem ct_X17_copy {K : gK} {h : AH} {a : Nat} {b0 b1 b2 b3 : Int32} (ha : h a = some (.inr (12, [.int b0, .int b1, .int b2, .int b3]))) : gCt K yX17_copy w_X17_copy 1 20 0 0 h [.ref a] (pR (.ref a) h) := by
  refine g_meth pf_X17_copy (nle rfl) (fun p e s m args below meth c F hnm htb => ?_)
  have F : gFix K p s m args meth c cX17_copy 1 RX17 (some (.object "CurtainRiggers$Numbered")) := F
  refine g_eql (lv' := [(0, .ref a)]) rfl ?_
  refine g_aload_n F dX17_copy_0 0 rfl rfl ?_
  refine g_callV F dX17_copy_1 mi_X17_copy_2 q577 q578 q579 gc_X17 ha ct_X17_copy_2 rfl rfl (nle rfl) (nle rfl) (nle rfl) (g_pur ?_) g_purX
  exact g_aret F dX17_copy_4 (Or.inl ⟨_, rfl⟩) (Or.inr ⟨_, rfl⟩) (⟨rfl, rfl⟩)
set_option maxHeartbeats 4000000 in
set_option maxRecDepth 100000 in
theorem ct_X9_numberOf_X5 {K : gK} {h : AH} {a : Nat} {b0 b1 b2 b3 b4 b5 b6 : Int32} (ha : h a = some (.inr (9, [.int b0, .int b1, .int b2, .int b3, .int b4, .int b5, .int b6]))) : gCt K yX9_numberOf w_X9_numberOf 1 20 0 0 h [.ref a] (pR (.int b0) h) := by
  refine g_meth pf_X9_numberOf (nle rfl) (fun p e s m args below meth c F hnm htb => ?_)
  have F : gFix K p s m args meth c cX9_numberOf 1 RX9 (some .int) := F
  refine g_eql (lv' := [(0, .ref a)]) rfl ?_
  refine g_aload_n F dX9_numberOf_0 0 rfl rfl ?_
  refine g_ifnonnull (tgt := 8) F dX9_numberOf_1 (by decide) ?_
  refine g_aload_n F dX9_numberOf_8 0 rfl rfl ?_
  refine g_callF (x := ⟨"CurtainRiggers$Numbered", "number", "()I"⟩) F dX9_numberOf_9 mi_X5_number rfl q778 10 rfl q783 q781 gc_X5 ha (ct_X5_number ha) rfl rfl (nle rfl) (nle rfl) (nle rfl) (g_pur ?_) g_purX
  exact g_iret F dX9_numberOf_14 (⟨rfl, rfl⟩)
set_option maxHeartbeats 4000000 in
set_option maxRecDepth 100000 in
theorem ct_X9_numberOf_X6 {K : gK} {h : AH} {a : Nat} {b0 b1 b2 : Int32} (ha : h a = some (.inr (10, [.int b0, .int b1, .int b2]))) : gCt K yX9_numberOf w_X9_numberOf 1 20 0 0 h [.ref a] (pR (.int b0) h) := by
  refine g_meth pf_X9_numberOf (nle rfl) (fun p e s m args below meth c F hnm htb => ?_)
  have F : gFix K p s m args meth c cX9_numberOf 1 RX9 (some .int) := F
  refine g_eql (lv' := [(0, .ref a)]) rfl ?_
  refine g_aload_n F dX9_numberOf_0 0 rfl rfl ?_
  refine g_ifnonnull (tgt := 8) F dX9_numberOf_1 (by decide) ?_
  refine g_aload_n F dX9_numberOf_8 0 rfl rfl ?_
  refine g_callF (x := ⟨"CurtainRiggers$Numbered", "number", "()I"⟩) F dX9_numberOf_9 mi_X6_number rfl q778 12 rfl q793 q791 gc_X6 ha (ct_X6_number ha) rfl rfl (nle rfl) (nle rfl) (nle rfl) (g_pur ?_) g_purX
  exact g_iret F dX9_numberOf_14 (⟨rfl, rfl⟩)
set_option maxHeartbeats 4000000 in
set_option maxRecDepth 100000 in
theorem ct_X9_numberOf_X7 {K : gK} {h : AH} {a : Nat} {b0 b1 b2 : Int32} (ha : h a = some (.inr (11, [.int b0, .int b1, .int b2]))) : gCt K yX9_numberOf w_X9_numberOf 1 20 0 0 h [.ref a] (pR (.int b0) h) := by
  refine g_meth pf_X9_numberOf (nle rfl) (fun p e s m args below meth c F hnm htb => ?_)
  have F : gFix K p s m args meth c cX9_numberOf 1 RX9 (some .int) := F
  refine g_eql (lv' := [(0, .ref a)]) rfl ?_
  refine g_aload_n F dX9_numberOf_0 0 rfl rfl ?_
  refine g_ifnonnull (tgt := 8) F dX9_numberOf_1 (by decide) ?_
  refine g_aload_n F dX9_numberOf_8 0 rfl rfl ?_
  refine g_callF (x := ⟨"CurtainRiggers$Numbered", "number", "()I"⟩) F dX9_numberOf_9 mi_X7_number rfl q778 13 rfl q798 q796 gc_X7 ha (ct_X7_number ha) rfl rfl (nle rfl) (nle rfl) (nle rfl) (g_pur ?_) g_purX
  exact g_iret F dX9_numberOf_14 (⟨rfl, rfl⟩)
set_option maxHeartbeats 4000000 in
set_option maxRecDepth 100000 in
theorem ct_X9_numberOf_X17 {K : gK} {h : AH} {a : Nat} {b0 b1 b2 b3 : Int32} (ha : h a = some (.inr (12, [.int b0, .int b1, .int b2, .int b3]))) : gCt K yX9_numberOf w_X9_numberOf 1 20 0 0 h [.ref a] (pR (.int b0) h) := by
  refine g_meth pf_X9_numberOf (nle rfl) (fun p e s m args below meth c F hnm htb => ?_)
  have F : gFix K p s m args meth c cX9_numberOf 1 RX9 (some .int) := F
  refine g_eql (lv' := [(0, .ref a)]) rfl ?_
  refine g_aload_n F dX9_numberOf_0 0 rfl rfl ?_
  refine g_ifnonnull (tgt := 8) F dX9_numberOf_1 (by decide) ?_
  refine g_aload_n F dX9_numberOf_8 0 rfl rfl ?_
  refine g_callF (x := ⟨"CurtainRiggers$Numbered", "number", "()I"⟩) F dX9_numberOf_9 mi_X17_number rfl q778 11 rfl q788 q786 gc_X17 ha (ct_X17_number ha) rfl rfl (nle rfl) (nle rfl) (nle rfl) (g_pur ?_) g_purX
  exact g_iret F dX9_numberOf_14 (⟨rfl, rfl⟩)
set_option maxHeartbeats 4000000 in
set_option maxRecDepth 100000 in
theorem ct_X9_numberOf_N {K : gK} {h : AH} : gCt K yX9_numberOf w_X9_numberOf 0 0 0 0 h [.null] (pR (.int (-1)) h) := by
  refine g_meth pf_X9_numberOf (nle rfl) (fun p e s m args below meth c F hnm htb => ?_)
  have F : gFix K p s m args meth c cX9_numberOf 1 RX9 (some .int) := F
  refine g_eql (lv' := [(0, .null)]) rfl ?_
  refine g_aload_nN F dX9_numberOf_0 0 rfl rfl ?_
  refine g_ifnonnullN F dX9_numberOf_1 ?_
  refine g_iconst (v := (-1)) F dX9_numberOf_4 rfl ?_
  refine g_goto (tgt := 14) F dX9_numberOf_5 (by decide) ?_
  exact g_iret F dX9_numberOf_14 (⟨rfl, rfl⟩)
set_option maxHeartbeats 4000000 in
set_option maxRecDepth 100000 in
theorem ct_X9_isAheadByNumber_X5 {K : gK} {h : AH} {a z : Nat} {b0 b1 b2 b3 b4 b5 b6 zb0 zb1 zb2 zb3 zb4 zb5 zb6 : Int32} (ha : h a = some (.inr (9, [.int b0, .int b1, .int b2, .int b3, .int b4, .int b5, .int b6]))) (hz : h z = some (.inr (9, [.int zb0, .int zb1, .int zb2, .int zb3, .int zb4, .int zb5, .int zb6]))) : gCt K yX9_isAheadByNumber w_X9_isAheadByNumber 1 20 0 0 h [.ref a, .ref z] (pR (.int (if b0 < zb0 then 1 else 0)) h) := by
  refine g_meth pf_X9_isAheadByNumber (nle rfl) (fun p e s m args below meth c F hnm htb => ?_)
  have F : gFix K p s m args meth c cX9_isAheadByNumber 2 RX9 (some .boolean) := F
  refine g_eql (lv' := [(0, .ref a), (1, .ref z)]) rfl ?_
  refine g_aload_n F dX9_isAheadByNumber_0 0 rfl rfl ?_
  refine g_callF (x := ⟨"CurtainRiggers$Numbered", "number", "()I"⟩) F dX9_isAheadByNumber_1 mi_X5_number rfl q778 10 rfl q783 q781 gc_X5 ha (ct_X5_number ha) rfl rfl (nle rfl) (nle rfl) (nle rfl) (g_pur ?_) g_purX
  refine g_aload_n F dX9_isAheadByNumber_6 1 rfl rfl ?_
  refine g_callF (x := ⟨"CurtainRiggers$Numbered", "number", "()I"⟩) F dX9_isAheadByNumber_7 mi_X5_number rfl q778 10 rfl q783 q781 gc_X5 hz (ct_X5_number hz) rfl rfl (nle rfl) (nle rfl) (nle rfl) (g_pur ?_) g_purX
  refine g_icmp_ge (tgt := 19) F dX9_isAheadByNumber_12 (by decide) (fun c15 => ?_) (fun c15 => ?_)
  · have d0 := c15
    refine g_iconst (v := 0) F dX9_isAheadByNumber_19 rfl ?_
    exact g_zret F dX9_isAheadByNumber_20 (by first | rfl | exact mIn_n | (split <;> rfl) | decide) (⟨by simp [*], rfl⟩)
  · have d0 := c15
    refine g_iconst (v := 1) F dX9_isAheadByNumber_15 rfl ?_
    refine g_goto (tgt := 20) F dX9_isAheadByNumber_16 (by decide) ?_
    exact g_zret F dX9_isAheadByNumber_20 (by first | rfl | exact mIn_n | (split <;> rfl) | decide) (⟨by simp [*], rfl⟩)
set_option maxHeartbeats 4000000 in
set_option maxRecDepth 100000 in
theorem ct_X9_isAheadByNumber_X17 {K : gK} {h : AH} {a z : Nat} {b0 b1 b2 b3 zb0 zb1 zb2 zb3 : Int32} (ha : h a = some (.inr (12, [.int b0, .int b1, .int b2, .int b3]))) (hz : h z = some (.inr (12, [.int zb0, .int zb1, .int zb2, .int zb3]))) : gCt K yX9_isAheadByNumber w_X9_isAheadByNumber 1 20 0 0 h [.ref a, .ref z] (pR (.int (if b0 < zb0 then 1 else 0)) h) := by
  refine g_meth pf_X9_isAheadByNumber (nle rfl) (fun p e s m args below meth c F hnm htb => ?_)
  have F : gFix K p s m args meth c cX9_isAheadByNumber 2 RX9 (some .boolean) := F
  refine g_eql (lv' := [(0, .ref a), (1, .ref z)]) rfl ?_
  refine g_aload_n F dX9_isAheadByNumber_0 0 rfl rfl ?_
  refine g_callF (x := ⟨"CurtainRiggers$Numbered", "number", "()I"⟩) F dX9_isAheadByNumber_1 mi_X17_number rfl q778 11 rfl q788 q786 gc_X17 ha (ct_X17_number ha) rfl rfl (nle rfl) (nle rfl) (nle rfl) (g_pur ?_) g_purX
  refine g_aload_n F dX9_isAheadByNumber_6 1 rfl rfl ?_
  refine g_callF (x := ⟨"CurtainRiggers$Numbered", "number", "()I"⟩) F dX9_isAheadByNumber_7 mi_X17_number rfl q778 11 rfl q788 q786 gc_X17 hz (ct_X17_number hz) rfl rfl (nle rfl) (nle rfl) (nle rfl) (g_pur ?_) g_purX
  refine g_icmp_ge (tgt := 19) F dX9_isAheadByNumber_12 (by decide) (fun c15 => ?_) (fun c15 => ?_)
  · have d0 := c15
    refine g_iconst (v := 0) F dX9_isAheadByNumber_19 rfl ?_
    exact g_zret F dX9_isAheadByNumber_20 (by first | rfl | exact mIn_n | (split <;> rfl) | decide) (⟨by simp [*], rfl⟩)
  · have d0 := c15
    refine g_iconst (v := 1) F dX9_isAheadByNumber_15 rfl ?_
    refine g_goto (tgt := 20) F dX9_isAheadByNumber_16 (by decide) ?_
    exact g_zret F dX9_isAheadByNumber_20 (by first | rfl | exact mIn_n | (split <;> rfl) | decide) (⟨by simp [*], rfl⟩)
