/-! ===== ArrayList (written by tools/class3.py) ===== -/
theorem lsD_ob {h : AH} {l : Nat → Nat} {n k y : Nat} (hob : ∀ i, i < n → gOb h (l i)) (hy : lsD l n k = some y) : gOb h y := by
  unfold lsD at hy
  split at hy
  · rename_i q; cases hy; exact hob k q
  · cases hy
set_option maxHeartbeats 4000000 in
set_option maxRecDepth 100000 in
theorem ct_J17_copyOf_2 {K : gK} {h : AH} {d : Nat} {l : Nat → Nat} (hd : h d = some (.inl (gT K 6, 10, .inr (.inr (.inr (.inr (lsD l 10))))))) (hdn : gOld K d = none) (hob : ∀ i, i < 10 → gOb h (l i)) : gCt K yJ17_copyOf_2 w_J17_copyOf_2 1 27 1 15 h [.ref d, .int 15, .ref (gAd K 200)] (pO (nwO K h (.inl (gT K 6, 15, .inr (.inr (.inr (.inr (lsD l 10)))))))) := by
  refine g_meth pf_J17_copyOf_2 (nle rfl) (fun p e s m args below meth c F hnm htb => ?_)
  have F : gFix K p s m args meth c cJ17_copyOf_2 4 RJ17 (some (.array (.object "java/lang/Object"))) := F
  refine g_eql (lv' := [(0, .ref d), (1, .int 15), (2, .ref (gAd K 200))]) rfl ?_
  refine g_aload_n F dJ17_copyOf_2_0 2 rfl rfl ?_
  refine g_ldcM F q711 F.mi dJ17_copyOf_2_1 ?_
  refine g_acmp_ne (rx := (some (gAd K 200))) (ry := (some (gAd K 200))) (tgt := 13) F dJ17_copyOf_2_3 (by decide) (fun c1 => absurd c1 ((fun z => z rfl))) (fun c1 => ?_)
  refine g_iload_n F dJ17_copyOf_2_6 1 rfl rfl ?_
  refine g_newq (t := 6) (N := 15) (b := 0) (bs := 0) F q712 F.hN.2.2.1 (by decide) rfl dJ17_copyOf_2_7 (by decide) rfl (by decide) (fun q2 h_3 hn_e4 ho_e4 e4 => ?_)
  have w5 := gE.no gE.rf hn_e4
  have x6 := gE.new1 gE.rf e4 hn_e4
  have f7 := gu_a e4
  refine g_goto (tgt := 24) F dJ17_copyOf_2_10 (by decide) ?_
  refine g_astore_n (lv' := [(3, .ref q2), (0, .ref d), (1, .int 15), (2, .ref (gAd K 200))]) F dJ17_copyOf_2_24 rfl (by decide) rfl ?_
  refine g_aload_n F dJ17_copyOf_2_25 1 rfl rfl ?_
  refine g_iconst (v := 0) F dJ17_copyOf_2_26 rfl ?_
  refine g_aload_n F dJ17_copyOf_2_27 0 rfl rfl ?_
  refine g_iconst (v := 0) F dJ17_copyOf_2_28 rfl ?_
  refine g_aload_n F dJ17_copyOf_2_29 1 rfl rfl ?_
  refine g_alen F (by decide) (x6 _ _ hd) dJ17_copyOf_2_30 ?_
  refine g_iload_n F dJ17_copyOf_2_31 2 rfl rfl ?_
  refine g_callS F dJ17_copyOf_2_32 mi_J16_min q713 q714 ct_J16_min rfl rfl (nle rfl) (nle rfl) (nle rfl) (g_pur ?_) g_purX
  refine g_acpyQ F ⟨q716, q718, q717, q94⟩ (x6 _ _ hd) hdn f7 ho_e4 (by decide) (by decide) (by decide) (by decide) (by decide) (fun i hi y hy => gOb.to (gE.new1 gE.rf e4 hn_e4) (lsD_ob hob hy)) (nle rfl) (nle rfl) dJ17_copyOf_2_35 (fun h_15 e16 => ?_)
  have hz : va_cpy (lsD l 10) (fun _ => none) (0 : Int32).toNatClampNeg (0 : Int32).toNatClampNeg (mMin (nI 10) 15).toNatClampNeg = lsD l 10 := lsD_full
  rw [hz] at e16
  have x17 := gE.wr1 x6 e16 w5
  have e18 := (by rw [e16, e4, gu_gu] : h_15 = gu h q2 _)
  have f19 := gu_a e16
  refine g_aload_n F dJ17_copyOf_2_38 0 rfl rfl ?_
  exact g_aret F dJ17_copyOf_2_39 (Or.inr ⟨_, rfl⟩) (Or.inr ⟨_, rfl⟩) (⟨_, rfl, _, rfl, hn_e4, ho_e4, by rw [e16, e4, gu_gu]⟩)
set_option maxHeartbeats 4000000 in
set_option maxRecDepth 100000 in
theorem ct_J17_copyOf {K : gK} {h : AH} {d : Nat} {l : Nat → Nat} (hd : h d = some (.inl (gT K 6, 10, .inr (.inr (.inr (.inr (lsD l 10))))))) (hdn : gOld K d = none) (hob : ∀ i, i < 10 → gOb h (l i)) : gCt K yJ17_copyOf w_J17_copyOf 2 50 1 15 h [.ref d, .int 15] (pO (nwO K h (.inl (gT K 6, 15, .inr (.inr (.inr (.inr (lsD l 10)))))))) := by
  refine g_meth pf_J17_copyOf (nle rfl) (fun p e s m args below meth c F hnm htb => ?_)
  have F : gFix K p s m args meth c cJ17_copyOf 2 RJ17 (some (.array (.object "java/lang/Object"))) := F
  refine g_eql (lv' := [(0, .ref d), (1, .int 15)]) rfl ?_
  refine g_aload_n F dJ17_copyOf_0 0 rfl rfl ?_
  refine g_iload_n F dJ17_copyOf_1 1 rfl rfl ?_
  refine g_aload_n F dJ17_copyOf_2 0 rfl rfl ?_
  refine g_getC F q673 hd (nle rfl) (nle rfl) dJ17_copyOf_3 ?_
  refine g_callS (b := 0) (bs := 0) F dJ17_copyOf_6 mi_J17_copyOf_2 q708 q709 (ct_J17_copyOf_2 hd hdn hob) rfl rfl (nle rfl) (nle rfl) (nle rfl) (g_pO (fun v1 h_2 p3 => ?_)) g_pOX
  obtain ⟨q8, rfl, hn_e9, ho_e9, e9⟩ := p3
  have w10 := gE.no gE.rf hn_e9
  have x11 := gE.new1 gE.rf e9 hn_e9
  have f12 := gu_a e9
  refine g_eqs (st' := [.ref q8]) rfl ?_
  exact g_aret F dJ17_copyOf_9 (Or.inr ⟨_, rfl⟩) (Or.inr ⟨_, rfl⟩) (⟨_, rfl, _, rfl, hn_e9, ho_e9, by rw [e9]⟩)
set_option maxHeartbeats 4000000 in
set_option maxRecDepth 100000 in
theorem ct_J15_newLength {K : gK} {h : AH} {x y z : Int32} (h1 : 0 < x + mMax y z) (h2 : x + mMax y z ≤ 2147483639) : gCt K yJ15_newLength w_J15_newLength 1 21 0 0 h [.int x, .int y, .int z] (pR (.int (x + mMax y z)) h) := by
  refine g_meth pf_J15_newLength (nle rfl) (fun p e s m args below meth c F hnm htb => ?_)
  have F : gFix K p s m args meth c cJ15_newLength 4 RJ15 (some .int) := F
  refine g_eql (lv' := [(0, .int x), (1, .int y), (2, .int z)]) rfl ?_
  refine g_iload_n F dJ15_newLength_0 0 rfl rfl ?_
  refine g_iload_n F dJ15_newLength_1 1 rfl rfl ?_
  refine g_iload_n F dJ15_newLength_2 2 rfl rfl ?_
  refine g_callS F dJ15_newLength_3 mi_J16_max q663 q664 ct_J16_max rfl rfl (nle rfl) (nle rfl) (nle rfl) (g_pur ?_) g_purX
  refine g_iadd F dJ15_newLength_6 ?_
  refine g_istore_n (lv' := [(3, .int (x + (mMax y z))), (0, .int x), (1, .int y), (2, .int z)]) F dJ15_newLength_7 rfl (by decide) rfl ?_
  refine g_iconst (v := 0) F dJ15_newLength_8 rfl ?_
  refine g_iload_n F dJ15_newLength_9 0 rfl rfl ?_
  refine g_icmp_ge (tgt := 21) F dJ15_newLength_10 (by decide) (fun c8 => absurd c8 (Int32.not_le.mpr h1)) (fun c8 => ?_)
  refine g_iload_n F dJ15_newLength_13 0 rfl rfl ?_
  refine g_ldc F q666 dJ15_newLength_14 ?_
  refine g_icmp_gt (tgt := 21) F dJ15_newLength_16 (by decide) (fun c9 => absurd c9 (Int32.not_lt.mpr h2)) (fun c9 => ?_)
  refine g_iload_n F dJ15_newLength_19 0 rfl rfl ?_
  exact g_iret F dJ15_newLength_20 (⟨rfl, rfl⟩)
set_option maxHeartbeats 4000000 in
set_option maxRecDepth 100000 in
theorem ct_J2_grow_2c {K : gK} {h : AH} {a d : Nat} {md : Int32} {l : Nat → Nat} (hl : h a = some (.inr (4, [.int md, .ref d, .int (nI 10)]))) (hln : gOld K a = none) (hd : h d = some (.inl (gT K 6, 10, .inr (.inr (.inr (.inr (lsD l 10))))))) (hdn : gOld K d = none) (hob : ∀ i, i < 10 → gOb h (l i)) : gCt K yJ2_grow_2 w_J2_grow_2 3 71 1 15 h [.ref a, .int 11] (pO (nwA K h (.inl (gT K 6, 15, .inr (.inr (.inr (.inr (lsD l 10)))))) a (fun q => .inr (4, [.int md, .ref q, .int (nI 10)])))) := by
  refine g_meth pf_J2_grow_2 (nle rfl) (fun p e s m args below meth c F hnm htb => ?_)
  have F : gFix K p s m args meth c cJ2_grow_2 4 RJ2 (some (.array (.object "java/lang/Object"))) := F
  refine g_eql (lv' := [(0, .ref a), (1, .int 11)]) rfl ?_
  refine g_aload_n F dJ2_grow_2_0 0 rfl rfl ?_
  refine gf_J2_9_J2 (v := .ref d) F dJ2_grow_2_1 hl rfl ?_
  refine g_alen F (by decide) hd dJ2_grow_2_4 ?_
  refine g_istore_n (lv' := [(2, .int (nI 10)), (0, .ref a), (1, .int 11)]) F dJ2_grow_2_5 rfl (by decide) rfl ?_
  refine g_iload_n F dJ2_grow_2_6 0 rfl rfl ?_
  refine g_if_gt (tgt := 20) F dJ2_grow_2_7 (by decide) (fun c1 => ?_) (fun c1 => absurd c1 (by decide))
  refine g_iload_n F dJ2_grow_2_20 0 rfl rfl ?_
  refine g_iload_n F dJ2_grow_2_21 2 rfl rfl ?_
  refine g_iload_n F dJ2_grow_2_22 0 rfl rfl ?_
  refine g_isub F dJ2_grow_2_23 ?_
  refine g_iload_n F dJ2_grow_2_24 0 rfl rfl ?_
  refine g_iconst (v := 1) F dJ2_grow_2_25 rfl ?_
  refine g_ishr F dJ2_grow_2_26 ?_
  refine g_callS F dJ2_grow_2_27 mi_J15_newLength q660 q661 (ct_J15_newLength (by decide) (by decide)) rfl rfl (nle rfl) (nle rfl) (nle rfl) (g_pur ?_) g_purX
  refine g_eqs (st' := [.int 15]) (rfl) ?_
  refine g_istore_n (lv' := [(3, .int 15), (2, .int (nI 10)), (0, .ref a), (1, .int 11)]) F dJ2_grow_2_30 rfl (by decide) rfl ?_
  refine g_aload_n F dJ2_grow_2_31 2 rfl rfl ?_
  refine g_aload_n F dJ2_grow_2_32 2 rfl rfl ?_
  refine gf_J2_9_J2 (v := .ref d) F dJ2_grow_2_33 hl rfl ?_
  refine g_iload_n F dJ2_grow_2_36 0 rfl rfl ?_
  refine g_callS (b := 0) (bs := 0) F dJ2_grow_2_37 mi_J17_copyOf q670 q671 (ct_J17_copyOf hd hdn hob) rfl rfl (nle rfl) (nle rfl) (nle rfl) (g_pO (fun v9 h_10 p11 => ?_)) g_pOX
  obtain ⟨q16, rfl, hn_e17, ho_e17, e17⟩ := p11
  have d18 := gnew hn_e17 hl
  have d19 := gnew hn_e17 hd
  have f20 := gu_t e17 hl d18
  have f21 := gu_t e17 hd d19
  have f22 := gu_a e17
  refine g_eqs (st' := [.ref q16, .ref a]) rfl ?_
  refine g_dup_x1 F dJ2_grow_2_40 rfl rfl ?_
  refine gp_J2_9_J2 (fs' := [.int md, .ref q16, .int (nI 10)]) F dJ2_grow_2_41 (Or.inr ⟨_, rfl⟩) f20 hln (nle rfl) rfl (fun h_23 e24 => ?_)
  have f25 := gu_t e24 f21 (gneB f21 f20)
  have f26 := gu_t e24 f22 (Ne.symm d18)
  have f27 := gu_a e24
  exact g_aret F dJ2_grow_2_44 (Or.inr ⟨_, rfl⟩) (Or.inr ⟨_, rfl⟩) (⟨_, rfl, _, rfl, hn_e17, ho_e17, by rw [e24, e17]⟩)
set_option maxHeartbeats 4000000 in
set_option maxRecDepth 100000 in
theorem ct_J2_growc {K : gK} {h : AH} {a d : Nat} {md : Int32} {l : Nat → Nat} (hl : h a = some (.inr (4, [.int md, .ref d, .int (nI 10)]))) (hln : gOld K a = none) (hd : h d = some (.inl (gT K 6, 10, .inr (.inr (.inr (.inr (lsD l 10))))))) (hdn : gOld K d = none) (hob : ∀ i, i < 10 → gOb h (l i)) : gCt K yJ2_grow w_J2_grow 4 94 1 15 h [.ref a] (pO (nwA K h (.inl (gT K 6, 15, .inr (.inr (.inr (.inr (lsD l 10)))))) a (fun q => .inr (4, [.int md, .ref q, .int (nI 10)])))) := by
  refine g_meth pf_J2_grow (nle rfl) (fun p e s m args below meth c F hnm htb => ?_)
  have F : gFix K p s m args meth c cJ2_grow 1 RJ2 (some (.array (.object "java/lang/Object"))) := F
  refine g_eql (lv' := [(0, .ref a)]) rfl ?_
  refine g_aload_n F dJ2_grow_0 0 rfl rfl ?_
  refine g_aload_n F dJ2_grow_1 0 rfl rfl ?_
  refine gf_J2_48_J2 (v := .int (nI 10)) F dJ2_grow_2 hl rfl ?_
  refine g_iconst (v := 1) F dJ2_grow_5 rfl ?_
  refine g_iadd F dJ2_grow_6 ?_
  refine g_eqs (st' := [.int 11, .ref a]) (rfl) ?_
  refine g_callV (b := 0) (bs := 0) F dJ2_grow_7 mi_J2_grow_2 q656 q658 qs3 gc_J2 hl (ct_J2_grow_2c hl hln hd hdn hob) rfl rfl (nle rfl) (nle rfl) (nle rfl) (g_pO (fun v1 h_2 p3 => ?_)) g_pOX
  obtain ⟨q8, rfl, hn_e10, ho_e10, e9⟩ := p3
  obtain ⟨h_11, e10⟩ : ∃ h9, h9 = gu h q8 (.inl (gT K 6, 15, .inr (.inr (.inr (.inr (lsD l 10)))))) := ⟨_, rfl⟩
  rw [← e10] at e9
  have d12 := gnew hn_e10 hl
  have d13 := gnew hn_e10 hd
  have f14 := gu_t e10 hl d12
  have f15 := gu_t e10 hd d13
  have f16 := gu_a e10
  have f17 := gu_t e9 f15 (gneB f15 f14)
  have f18 := gu_t e9 f16 (Ne.symm d12)
  have f19 := gu_a e9
  refine g_eqs (st' := [.ref q8]) rfl ?_
  exact g_aret F dJ2_grow_10 (Or.inr ⟨_, rfl⟩) (Or.inr ⟨_, rfl⟩) (⟨_, rfl, _, rfl, hn_e10, ho_e10, by rw [e9, e10]⟩)
set_option maxHeartbeats 4000000 in
set_option maxRecDepth 100000 in
theorem ct_J2_grow_2b {K : gK} {h : AH} {a : Nat} {md : Int32} (hl : h a = some (.inr (4, [.int md, .ref (gAd K 203), .int (nI 0)]))) (hln : gOld K a = none) (hKA : gKA K) : gCt K yJ2_grow_2 w_J2_grow_2 3 71 1 15 h [.ref a, .int 1] (pO (nwA K h (.inl (gT K 6, 10, .inr (.inr (.inr (.inr (fun _ => none)))))) a (fun q => .inr (4, [.int md, .ref q, .int (nI 0)])))) := by
  refine g_meth pf_J2_grow_2 (nle rfl) (fun p e s m args below meth c F hnm htb => ?_)
  have F : gFix K p s m args meth c cJ2_grow_2 4 RJ2 (some (.array (.object "java/lang/Object"))) := F
  refine g_eql (lv' := [(0, .ref a), (1, .int 1)]) rfl ?_
  refine g_old hKA (fun hE0 => ?_)
  refine g_aload_n F dJ2_grow_2_0 0 rfl rfl ?_
  refine gf_J2_9_J2 (v := .ref (gAd K 203)) F dJ2_grow_2_1 hl rfl ?_
  refine g_alen F (by decide) hE0 dJ2_grow_2_4 ?_
  refine g_istore_n (lv' := [(2, .int (nI 0)), (0, .ref a), (1, .int 1)]) F dJ2_grow_2_5 rfl (by decide) rfl ?_
  refine g_iload_n F dJ2_grow_2_6 0 rfl rfl ?_
  refine g_if_gt (tgt := 20) F dJ2_grow_2_7 (by decide) (fun c1 => absurd c1 (by decide)) (fun c1 => ?_)
  refine g_aload_n F dJ2_grow_2_10 1 rfl rfl ?_
  refine gf_J2_9_J2 (v := .ref (gAd K 203)) F dJ2_grow_2_11 hl rfl ?_
  refine g_gets F (gZs_3 K) q150 (fun _ h9 => h9) dJ2_grow_2_14 ?_
  refine g_acmp_eq (rx := (some (gAd K 203))) (ry := (some (gAd K 203))) (tgt := 45) F dJ2_grow_2_17 (by decide) (fun c2 => ?_) (fun c2 => absurd c2 ((fun z => z rfl)))
  refine g_aload_n F dJ2_grow_2_45 1 rfl rfl ?_
  refine g_bipush (v := 10) F dJ2_grow_2_46 rfl ?_
  refine g_iload_n F dJ2_grow_2_48 2 rfl rfl ?_
  refine g_callS F dJ2_grow_2_49 mi_J16_max q719 q664 ct_J16_max rfl rfl (nle rfl) (nle rfl) (nle rfl) (g_pur ?_) g_purX
  refine g_eqs (st' := [.int 10, .ref a]) (rfl) ?_
  refine g_newq (t := 6) (N := 10) (b := 0) (bs := 5) F q720 F.hN.2.2.1 (by decide) rfl dJ2_grow_2_52 (by decide) rfl (by decide) (fun q10 h_11 hn_e12 ho_e12 e12 => ?_)
  have d13 := gnew hn_e12 hl
  have f14 := gu_t e12 hl d13
  have f15 := gu_a e12
  refine g_dup_x1 F dJ2_grow_2_55 rfl rfl ?_
  refine gp_J2_9_J2 (fs' := [.int md, .ref q10, .int (nI 0)]) F dJ2_grow_2_56 (Or.inr ⟨_, rfl⟩) f14 hln (nle rfl) rfl (fun h_16 e17 => ?_)
  have f18 := gu_t e17 f15 (Ne.symm d13)
  have f19 := gu_a e17
  exact g_aret F dJ2_grow_2_59 (Or.inr ⟨_, rfl⟩) (Or.inr ⟨_, rfl⟩) (⟨_, rfl, _, rfl, hn_e12, ho_e12, by rw [e17, e12]⟩)
set_option maxHeartbeats 4000000 in
set_option maxRecDepth 100000 in
theorem ct_J2_growb {K : gK} {h : AH} {a : Nat} {md : Int32} (hl : h a = some (.inr (4, [.int md, .ref (gAd K 203), .int (nI 0)]))) (hln : gOld K a = none) (hKA : gKA K) : gCt K yJ2_grow w_J2_grow 4 94 1 15 h [.ref a] (pO (nwA K h (.inl (gT K 6, 10, .inr (.inr (.inr (.inr (fun _ => none)))))) a (fun q => .inr (4, [.int md, .ref q, .int (nI 0)])))) := by
  refine g_meth pf_J2_grow (nle rfl) (fun p e s m args below meth c F hnm htb => ?_)
  have F : gFix K p s m args meth c cJ2_grow 1 RJ2 (some (.array (.object "java/lang/Object"))) := F
  refine g_eql (lv' := [(0, .ref a)]) rfl ?_
  refine g_aload_n F dJ2_grow_0 0 rfl rfl ?_
  refine g_aload_n F dJ2_grow_1 0 rfl rfl ?_
  refine gf_J2_48_J2 (v := .int (nI 0)) F dJ2_grow_2 hl rfl ?_
  refine g_iconst (v := 1) F dJ2_grow_5 rfl ?_
  refine g_iadd F dJ2_grow_6 ?_
  refine g_eqs (st' := [.int 1, .ref a]) (rfl) ?_
  refine g_callV (b := 0) (bs := 0) F dJ2_grow_7 mi_J2_grow_2 q656 q658 qs3 gc_J2 hl (ct_J2_grow_2b hl hln hKA) rfl rfl (nle rfl) (nle rfl) (nle rfl) (g_pO (fun v1 h_2 p3 => ?_)) g_pOX
  obtain ⟨q8, rfl, hn_e10, ho_e10, e9⟩ := p3
  obtain ⟨h_11, e10⟩ : ∃ h9, h9 = gu h q8 (.inl (gT K 6, 10, .inr (.inr (.inr (.inr (fun _ => none)))))) := ⟨_, rfl⟩
  rw [← e10] at e9
  have d12 := gnew hn_e10 hl
  have f13 := gu_t e10 hl d12
  have f14 := gu_a e10
  have f15 := gu_t e9 f14 (Ne.symm d12)
  have f16 := gu_a e9
  refine g_eqs (st' := [.ref q8]) rfl ?_
  exact g_aret F dJ2_grow_10 (Or.inr ⟨_, rfl⟩) (Or.inr ⟨_, rfl⟩) (⟨_, rfl, _, rfl, hn_e10, ho_e10, by rw [e9, e10]⟩)
set_option maxHeartbeats 4000000 in
set_option maxRecDepth 100000 in
theorem ct_J2_add_2c {K : gK} {h h0 : AH} {a d y : Nat} {md : Int32} {l : Nat → Nat} (hl : h a = some (.inr (4, [.int md, .ref d, .int (nI 10)]))) (hNa : gNw K h0 a) (hE : gE h0 h) (hy : gOb h y) (hd : h d = some (.inl (gT K 6, 10, .inr (.inr (.inr (.inr (lsD l 10))))))) (hNd : gNw K h0 d) (hdn : gOld K d = none) (hob : ∀ i, i < 10 → gOb h (l i)) : gCt K yJ2_add_2 w_J2_add_2 5 114 1 15 h [.ref a, .ref y, .ref d, .int (nI 10)] (pO (fun r h9 => r = none ∧ lsG K h0 h a d (10 + 1) (lsP l 10 y) h9)) := by
  refine g_meth pf_J2_add_2 (nle rfl) (fun p e s m args below meth c F hnm htb => ?_)
  have F : gFix K p s m args meth c cJ2_add_2 4 RJ2 none := F
  refine g_eql (lv' := [(0, .ref a), (1, .ref y), (2, .ref d), (3, .int (nI 10))]) rfl ?_
  refine g_iload_n F dJ2_add_2_0 3 rfl rfl ?_
  refine g_aload_n F dJ2_add_2_1 2 rfl rfl ?_
  refine g_alen F (by decide) hd dJ2_add_2_2 ?_
  refine g_icmp_ne (tgt := 11) F dJ2_add_2_3 (by decide) (fun c1 => absurd c1 ((fun z => z rfl))) (fun c1 => ?_)
  refine g_aload_n F dJ2_add_2_6 0 rfl rfl ?_
  refine g_callV (b := 0) (bs := 0) F dJ2_add_2_7 mi_J2_grow q652 q654 qs2 gc_J2 hl (ct_J2_growc hl hNa.2 hd hdn (fun i hi => (hob i hi))) rfl rfl (nle rfl) (nle rfl) (nle rfl) (g_pO (fun v2 h_3 p4 => ?_)) g_pOX
  obtain ⟨q9, rfl, hn_e11, ho_e11, e10⟩ := p4
  obtain ⟨h_12, e11⟩ : ∃ h9, h9 = gu h q9 (.inl (gT K 6, 15, .inr (.inr (.inr (.inr (lsD l 10)))))) := ⟨_, rfl⟩
  rw [← e11] at e10
  have w13 := gE.no hE hn_e11
  have d14 := gnew hn_e11 hl
  have d15 := gnew hn_e11 hd
  have x16 := gE.new1 hE e11 hn_e11
  have f17 := gu_t e11 hl d14
  have f18 := gu_t e11 hd d15
  have f19 := gu_a e11
  have x20 := gE.wr1 x16 e10 hNa.1
  have f21 := gu_t e10 f18 (gneB f18 f17)
  have f22 := gu_t e10 f19 (Ne.symm d14)
  have f23 := gu_a e10
  refine g_eqs (st' := [.ref q9]) rfl ?_
  refine g_astore_n (lv' := [(2, .ref q9), (0, .ref a), (1, .ref y), (3, .int (nI 10))]) F dJ2_add_2_10 rfl (by decide) rfl ?_
  refine g_aload_n F dJ2_add_2_11 0 rfl rfl ?_
  refine g_iload_n F dJ2_add_2_12 3 rfl rfl ?_
  refine g_aload_n F dJ2_add_2_13 2 rfl rfl ?_
  refine g_aastO (i := 10) F (gOb.wo e10 (gu_t e11 hl (gnew hn_e11 hl)) (gOb.to (gE.new1 gE.rf e11 hn_e11) hy)) f22 ho_e11 rfl (show 10 = 10 by omega) (by omega) (by decide) dJ2_add_2_14 (fun h_24 e25 => ?_)
  have x26 := gE.wr1 x20 e25 w13
  have f27 := gu_t e25 f21 d15
  have f28 := gu_t e25 f23 d14
  have f29 := gu_a e25
  refine g_aload_n F dJ2_add_2_15 1 rfl rfl ?_
  refine g_iload_n F dJ2_add_2_16 3 rfl rfl ?_
  refine g_iconst (v := 1) F dJ2_add_2_17 rfl ?_
  refine g_iadd F dJ2_add_2_18 ?_
  refine g_eqs (st' := [.int (nI (10 + 1)), .ref a]) (by rw [nI_1]) ?_
  refine gp_J2_48_J2 (fs' := [.int md, .ref q9, .int (nI (10 + 1))]) F dJ2_add_2_19 f28 hNa.2 (nle rfl) rfl (fun h_30 e31 => ?_)
  have x32 := gE.wr1 x26 e31 hNa.1
  have f33 := gu_t e31 f27 (gneB f27 f28)
  have f34 := gu_t e31 f29 (Ne.symm d14)
  have f35 := gu_a e31
  exact g_vret F dJ2_add_2_22 (⟨none, rfl, rfl, q9, md, ⟨f35, hNa, by omega, .inr ⟨by omega, ⟨w13, ho_e11⟩, ho_e11, by rw [← lsD_p]; exact f34⟩⟩, x32, .inr hn_e11, fun x ex hx n1 n2 => (gu_t e31 (gu_t e25 (gu_t e10 (gu_t e11 hx (gnew hn_e11 hx)) n1) (gnew hn_e11 hx)) n1)⟩)
set_option maxHeartbeats 4000000 in
set_option maxRecDepth 100000 in
theorem ct_J2_add_2b {K : gK} {h h0 : AH} {a y : Nat} {md : Int32} {l : Nat → Nat} (hl : h a = some (.inr (4, [.int md, .ref (gAd K 203), .int (nI 0)]))) (hNa : gNw K h0 a) (hE : gE h0 h) (hy : gOb h y) (hKA : gKA K) : gCt K yJ2_add_2 w_J2_add_2 5 114 1 15 h [.ref a, .ref y, .ref (gAd K 203), .int (nI 0)] (pO (fun r h9 => r = none ∧ lsG K h0 h a (gAd K 203) (0 + 1) (lsP l 0 y) h9)) := by
  refine g_meth pf_J2_add_2 (nle rfl) (fun p e s m args below meth c F hnm htb => ?_)
  have F : gFix K p s m args meth c cJ2_add_2 4 RJ2 none := F
  refine g_eql (lv' := [(0, .ref a), (1, .ref y), (2, .ref (gAd K 203)), (3, .int (nI 0))]) rfl ?_
  refine g_old hKA (fun hE0 => ?_)
  refine g_iload_n F dJ2_add_2_0 3 rfl rfl ?_
  refine g_aload_n F dJ2_add_2_1 2 rfl rfl ?_
  refine g_alen F (by decide) hE0 dJ2_add_2_2 ?_
  refine g_icmp_ne (tgt := 11) F dJ2_add_2_3 (by decide) (fun c1 => absurd c1 ((fun z => z rfl))) (fun c1 => ?_)
  refine g_aload_n F dJ2_add_2_6 0 rfl rfl ?_
  refine g_callV (b := 0) (bs := 0) F dJ2_add_2_7 mi_J2_grow q652 q654 qs2 gc_J2 hl (ct_J2_growb hl hNa.2 hKA) rfl rfl (nle rfl) (nle rfl) (nle rfl) (g_pO (fun v2 h_3 p4 => ?_)) g_pOX
  obtain ⟨q9, rfl, hn_e11, ho_e11, e10⟩ := p4
  obtain ⟨h_12, e11⟩ : ∃ h9, h9 = gu h q9 (.inl (gT K 6, 10, .inr (.inr (.inr (.inr (fun _ => none)))))) := ⟨_, rfl⟩
  rw [← e11] at e10
  have w13 := gE.no hE hn_e11
  have d14 := gnew hn_e11 hl
  have x15 := gE.new1 hE e11 hn_e11
  have f16 := gu_t e11 hl d14
  have f17 := gu_a e11
  have x18 := gE.wr1 x15 e10 hNa.1
  have f19 := gu_t e10 f17 (Ne.symm d14)
  have f20 := gu_a e10
  refine g_eqs (st' := [.ref q9]) rfl ?_
  refine g_astore_n (lv' := [(2, .ref q9), (0, .ref a), (1, .ref y), (3, .int (nI 0))]) F dJ2_add_2_10 rfl (by decide) rfl ?_
  refine g_aload_n F dJ2_add_2_11 0 rfl rfl ?_
  refine g_iload_n F dJ2_add_2_12 3 rfl rfl ?_
  refine g_aload_n F dJ2_add_2_13 2 rfl rfl ?_
  refine g_aastO (i := 0) F (gOb.wo e10 (gu_t e11 hl (gnew hn_e11 hl)) (gOb.to (gE.new1 gE.rf e11 hn_e11) hy)) f19 ho_e11 rfl (show 0 = 0 by omega) (by omega) (by decide) dJ2_add_2_14 (fun h_21 e22 => ?_)
  have x23 := gE.wr1 x18 e22 w13
  have f24 := gu_t e22 f20 d14
  have f25 := gu_a e22
  refine g_aload_n F dJ2_add_2_15 1 rfl rfl ?_
  refine g_iload_n F dJ2_add_2_16 3 rfl rfl ?_
  refine g_iconst (v := 1) F dJ2_add_2_17 rfl ?_
  refine g_iadd F dJ2_add_2_18 ?_
  refine g_eqs (st' := [.int (nI (0 + 1)), .ref a]) (by rw [nI_1]) ?_
  refine gp_J2_48_J2 (fs' := [.int md, .ref q9, .int (nI (0 + 1))]) F dJ2_add_2_19 f24 hNa.2 (nle rfl) rfl (fun h_26 e27 => ?_)
  have x28 := gE.wr1 x23 e27 hNa.1
  have f29 := gu_t e27 f25 (Ne.symm d14)
  have f30 := gu_a e27
  exact g_vret F dJ2_add_2_22 (⟨none, rfl, rfl, q9, md, ⟨f30, hNa, by omega, .inr ⟨by omega, ⟨w13, ho_e11⟩, ho_e11, by rw [← lsD_p, ← lsD_none]; exact f29⟩⟩, x28, .inr hn_e11, fun x ex hx n1 n2 => (gu_t e27 (gu_t e22 (gu_t e10 (gu_t e11 hx (gnew hn_e11 hx)) n1) (gnew hn_e11 hx)) n1)⟩)
set_option maxHeartbeats 4000000 in
set_option maxRecDepth 100000 in
theorem ct_J2_add_2a {K : gK} {h h0 : AH} {a d y n : Nat} {md : Int32} {l : Nat → Nat} (hl : h a = some (.inr (4, [.int md, .ref d, .int (nI n)]))) (hNa : gNw K h0 a) (hE : gE h0 h) (hy : gOb h y) (hd : h d = some (.inl (gT K 6, cpO n, .inr (.inr (.inr (.inr (lsD l n))))))) (hNd : gNw K h0 d) (hdn : gOld K d = none) (q0 : n ≠ 0) (q10 : n ≠ 10) (q15 : n < 15) : gCt K yJ2_add_2 w_J2_add_2 5 114 1 15 h [.ref a, .ref y, .ref d, .int (nI n)] (pO (fun r h9 => r = none ∧ lsG K h0 h a d (n + 1) (lsP l n y) h9)) := by
  refine g_meth pf_J2_add_2 (nle rfl) (fun p e s m args below meth c F hnm htb => ?_)
  have F : gFix K p s m args meth c cJ2_add_2 4 RJ2 none := F
  refine g_eql (lv' := [(0, .ref a), (1, .ref y), (2, .ref d), (3, .int (nI n))]) rfl ?_
  obtain ⟨hcp1, hcp2⟩ := cpO_s q0 q10 q15
  have hc15 : cpO n ≤ 15 := cpO_15
  refine g_iload_n F dJ2_add_2_0 3 rfl rfl ?_
  refine g_aload_n F dJ2_add_2_1 2 rfl rfl ?_
  refine g_alen F (by decide) hd dJ2_add_2_2 ?_
  refine g_icmp_ne (tgt := 11) F dJ2_add_2_3 (by decide) (fun c1 => ?_) (fun c1 => absurd c1 ((fun z => by have := (nI_eq (by omega) (by omega)).mp z; omega)))
  refine g_aload_n F dJ2_add_2_11 2 rfl rfl ?_
  refine g_iload_n F dJ2_add_2_12 3 rfl rfl ?_
  refine g_aload_n F dJ2_add_2_13 1 rfl rfl ?_
  refine g_aastO (i := n) F hy hd hdn rfl (show n = n by omega) (by omega) (by omega) dJ2_add_2_14 (fun h_2 e3 => ?_)
  have x4 := gE.wr1 hE e3 hNd.1
  have f5 := gu_t e3 hl (gneA hl hd)
  have f6 := gu_a e3
  refine g_aload_n F dJ2_add_2_15 0 rfl rfl ?_
  refine g_iload_n F dJ2_add_2_16 3 rfl rfl ?_
  refine g_iconst (v := 1) F dJ2_add_2_17 rfl ?_
  refine g_iadd F dJ2_add_2_18 ?_
  refine g_eqs (st' := [.int (nI (n + 1)), .ref a]) (by rw [nI_1]) ?_
  refine gp_J2_48_J2 (fs' := [.int md, .ref d, .int (nI (n + 1))]) F dJ2_add_2_19 f5 hNa.2 (nle rfl) rfl (fun h_7 e8 => ?_)
  have x9 := gE.wr1 x4 e8 hNa.1
  have f10 := gu_t e8 f6 (gneB f6 f5)
  have f11 := gu_a e8
  exact g_vret F dJ2_add_2_22 (⟨none, rfl, rfl, d, md, ⟨f11, hNa, by omega, .inr ⟨by omega, hNd, hdn, by rw [hcp1, ← lsD_p]; exact f10⟩⟩, x9, .inl rfl, fun x ex hx n1 n2 => (gu_t e8 (gu_t e3 hx (n2 (by omega))) n1)⟩)
set_option maxHeartbeats 4000000 in
set_option maxRecDepth 100000 in
theorem ct_J2_addc {K : gK} {h h0 : AH} {a d y : Nat} {md : Int32} {l : Nat → Nat} (hl : h a = some (.inr (4, [.int md, .ref d, .int (nI 10)]))) (hNa : gNw K h0 a) (hE : gE h0 h) (hy : gOb h y) (hd : h d = some (.inl (gT K 6, 10, .inr (.inr (.inr (.inr (lsD l 10))))))) (hNd : gNw K h0 d) (hdn : gOld K d = none) (hob : ∀ i, i < 10 → gOb h (l i)) : gCt K yJ2_add w_J2_add 6 137 1 15 h [.ref a, .ref y] (pO (fun r h9 => r = some (.int 1) ∧ lsG K h0 h a d (10 + 1) (lsP l 10 y) h9)) := by
  refine g_meth pf_J2_add (nle rfl) (fun p e s m args below meth c F hnm htb => ?_)
  have F : gFix K p s m args meth c cJ2_add 2 RJ2 (some .boolean) := F
  refine g_eql (lv' := [(0, .ref a), (1, .ref y)]) rfl ?_
  refine g_aload_n F dJ2_add_0 0 rfl rfl ?_
  refine g_dup F dJ2_add_1 rfl ?_
  refine gf_J2_63_J2 (v := .int md) F dJ2_add_2 hl rfl ?_
  refine g_iconst (v := 1) F dJ2_add_5 rfl ?_
  refine g_iadd F dJ2_add_6 ?_
  refine gp_J2_63_J2 (fs' := [.int (md + 1), .ref d, .int (nI 10)]) F dJ2_add_7 hl hNa.2 (nle rfl) rfl (fun h_1 e2 => ?_)
  have x3 := gE.wr1 hE e2 hNa.1
  have f4 := gu_t e2 hd (gneB hd hl)
  have f5 := gu_a e2
  refine g_aload_n F dJ2_add_10 0 rfl rfl ?_
  refine g_aload_n F dJ2_add_11 1 rfl rfl ?_
  refine g_aload_n F dJ2_add_12 0 rfl rfl ?_
  refine gf_J2_9_J2 (v := .ref d) F dJ2_add_13 f5 rfl ?_
  refine g_aload_n F dJ2_add_16 0 rfl rfl ?_
  refine gf_J2_48_J2 (v := .int (nI 10)) F dJ2_add_17 f5 rfl ?_
  refine g_callV (b := 0) (bs := 0) F dJ2_add_20 mi_J2_add_2 q648 q650 qs1 gc_J2 f5 (ct_J2_add_2c (l := l) f5 hNa x3 (gOb.wo e2 hl hy) f4 hNd hdn (fun i hi => gOb.wo e2 hl (hob i hi))) rfl rfl (nle rfl) (nle rfl) (nle rfl) (g_pO (fun v6 h_7 p8 => ?_)) g_pOX
  obtain ⟨rfl, p8⟩ := p8
  refine g_eqs (st' := []) rfl ?_
  refine g_iconst (v := 1) F dJ2_add_23 rfl ?_
  exact g_zret F dJ2_add_24 (by first | rfl | exact mIn_n | (split <;> rfl) | decide) (⟨_, rfl, rfl, lsG.pre e2 p8⟩)
set_option maxHeartbeats 4000000 in
set_option maxRecDepth 100000 in
theorem ct_J2_addb {K : gK} {h h0 : AH} {a y : Nat} {md : Int32} {l : Nat → Nat} (hl : h a = some (.inr (4, [.int md, .ref (gAd K 203), .int (nI 0)]))) (hNa : gNw K h0 a) (hE : gE h0 h) (hy : gOb h y) (hKA : gKA K) : gCt K yJ2_add w_J2_add 6 137 1 15 h [.ref a, .ref y] (pO (fun r h9 => r = some (.int 1) ∧ lsG K h0 h a (gAd K 203) (0 + 1) (lsP l 0 y) h9)) := by
  refine g_meth pf_J2_add (nle rfl) (fun p e s m args below meth c F hnm htb => ?_)
  have F : gFix K p s m args meth c cJ2_add 2 RJ2 (some .boolean) := F
  refine g_eql (lv' := [(0, .ref a), (1, .ref y)]) rfl ?_
  refine g_aload_n F dJ2_add_0 0 rfl rfl ?_
  refine g_dup F dJ2_add_1 rfl ?_
  refine gf_J2_63_J2 (v := .int md) F dJ2_add_2 hl rfl ?_
  refine g_iconst (v := 1) F dJ2_add_5 rfl ?_
  refine g_iadd F dJ2_add_6 ?_
  refine gp_J2_63_J2 (fs' := [.int (md + 1), .ref (gAd K 203), .int (nI 0)]) F dJ2_add_7 hl hNa.2 (nle rfl) rfl (fun h_1 e2 => ?_)
  have x3 := gE.wr1 hE e2 hNa.1
  have f4 := gu_a e2
  refine g_aload_n F dJ2_add_10 0 rfl rfl ?_
  refine g_aload_n F dJ2_add_11 1 rfl rfl ?_
  refine g_aload_n F dJ2_add_12 0 rfl rfl ?_
  refine gf_J2_9_J2 (v := .ref (gAd K 203)) F dJ2_add_13 f4 rfl ?_
  refine g_aload_n F dJ2_add_16 0 rfl rfl ?_
  refine gf_J2_48_J2 (v := .int (nI 0)) F dJ2_add_17 f4 rfl ?_
  refine g_callV (b := 0) (bs := 0) F dJ2_add_20 mi_J2_add_2 q648 q650 qs1 gc_J2 f4 (ct_J2_add_2b (l := l) f4 hNa x3 (gOb.wo e2 hl hy) hKA) rfl rfl (nle rfl) (nle rfl) (nle rfl) (g_pO (fun v5 h_6 p7 => ?_)) g_pOX
  obtain ⟨rfl, p7⟩ := p7
  refine g_eqs (st' := []) rfl ?_
  refine g_iconst (v := 1) F dJ2_add_23 rfl ?_
  exact g_zret F dJ2_add_24 (by first | rfl | exact mIn_n | (split <;> rfl) | decide) (⟨_, rfl, rfl, lsG.pre e2 p7⟩)
set_option maxHeartbeats 4000000 in
set_option maxRecDepth 100000 in
theorem ct_J2_adda {K : gK} {h h0 : AH} {a d y n : Nat} {md : Int32} {l : Nat → Nat} (hl : h a = some (.inr (4, [.int md, .ref d, .int (nI n)]))) (hNa : gNw K h0 a) (hE : gE h0 h) (hy : gOb h y) (hd : h d = some (.inl (gT K 6, cpO n, .inr (.inr (.inr (.inr (lsD l n))))))) (hNd : gNw K h0 d) (hdn : gOld K d = none) (q0 : n ≠ 0) (q10 : n ≠ 10) (q15 : n < 15) : gCt K yJ2_add w_J2_add 6 137 1 15 h [.ref a, .ref y] (pO (fun r h9 => r = some (.int 1) ∧ lsG K h0 h a d (n + 1) (lsP l n y) h9)) := by
  refine g_meth pf_J2_add (nle rfl) (fun p e s m args below meth c F hnm htb => ?_)
  have F : gFix K p s m args meth c cJ2_add 2 RJ2 (some .boolean) := F
  refine g_eql (lv' := [(0, .ref a), (1, .ref y)]) rfl ?_
  refine g_aload_n F dJ2_add_0 0 rfl rfl ?_
  refine g_dup F dJ2_add_1 rfl ?_
  refine gf_J2_63_J2 (v := .int md) F dJ2_add_2 hl rfl ?_
  refine g_iconst (v := 1) F dJ2_add_5 rfl ?_
  refine g_iadd F dJ2_add_6 ?_
  refine gp_J2_63_J2 (fs' := [.int (md + 1), .ref d, .int (nI n)]) F dJ2_add_7 hl hNa.2 (nle rfl) rfl (fun h_1 e2 => ?_)
  have x3 := gE.wr1 hE e2 hNa.1
  have f4 := gu_t e2 hd (gneB hd hl)
  have f5 := gu_a e2
  refine g_aload_n F dJ2_add_10 0 rfl rfl ?_
  refine g_aload_n F dJ2_add_11 1 rfl rfl ?_
  refine g_aload_n F dJ2_add_12 0 rfl rfl ?_
  refine gf_J2_9_J2 (v := .ref d) F dJ2_add_13 f5 rfl ?_
  refine g_aload_n F dJ2_add_16 0 rfl rfl ?_
  refine gf_J2_48_J2 (v := .int (nI n)) F dJ2_add_17 f5 rfl ?_
  refine g_callV (b := 0) (bs := 0) F dJ2_add_20 mi_J2_add_2 q648 q650 qs1 gc_J2 f5 (ct_J2_add_2a (l := l) f5 hNa x3 (gOb.wo e2 hl hy) f4 hNd hdn q0 q10 q15) rfl rfl (nle rfl) (nle rfl) (nle rfl) (g_pO (fun v6 h_7 p8 => ?_)) g_pOX
  obtain ⟨rfl, p8⟩ := p8
  refine g_eqs (st' := []) rfl ?_
  refine g_iconst (v := 1) F dJ2_add_23 rfl ?_
  exact g_zret F dJ2_add_24 (by first | rfl | exact mIn_n | (split <;> rfl) | decide) (⟨_, rfl, rfl, lsG.pre e2 p8⟩)
theorem ct_J2_addL {K : gK} {h h0 : AH} {a d n y : Nat} {l : Nat → Nat} {md : Int32} (hl : lsO K (gNw K h0) h a d n l md) (hE : gE h0 h) (hn : n < 15) (hob : ∀ i, i < n → gOb h (l i)) (hy : gOb h y) (hKA : gKA K) : gCt K yJ2_add w_J2_add 6 137 1 15 h [.ref a, .ref y] (pO (fun r h9 => r = some (.int 1) ∧ lsG K h0 h a d (n + 1) (lsP l n y) h9)) := by
  obtain ⟨h1, h2, h3, h4⟩ := hl
  rcases h4 with ⟨rfl, rfl⟩ | ⟨q1, q2, q3, q4⟩
  · exact ct_J2_addb h1 h2 hE hy hKA
  · by_cases q : n = 10
    · subst q; exact ct_J2_addc h1 h2 hE hy q4 q2 q3 hob
    · exact ct_J2_adda h1 h2 hE hy q4 q2 q3 (by omega) q hn
set_option maxHeartbeats 4000000 in
set_option maxRecDepth 100000 in
theorem ct_J2_rangeCheckForAdd {K : gK} {h : AH} {a d n pl : Nat} {md : Int32} (hl : h a = some (.inr (4, [.int md, .ref d, .int (nI n)]))) (hp : pl ≤ n) (hn : n < 2 ^ 31) : gCt K yJ2_rangeCheckForAdd w_J2_rangeCheckForAdd 0 0 0 0 h [.ref a, .int (nI pl)] (pV h) := by
  refine g_meth pf_J2_rangeCheckForAdd (nle rfl) (fun p e s m args below meth c F hnm htb => ?_)
  have F : gFix K p s m args meth c cJ2_rangeCheckForAdd 2 RJ2 none := F
  refine g_eql (lv' := [(0, .ref a), (1, .int (nI pl))]) rfl ?_
  refine g_iload_n F dJ2_rangeCheckForAdd_0 1 rfl rfl ?_
  refine g_aload_n F dJ2_rangeCheckForAdd_1 0 rfl rfl ?_
  refine gf_J2_48_J2 (v := .int (nI n)) F dJ2_rangeCheckForAdd_2 hl rfl ?_
  refine g_icmp_gt (tgt := 12) F dJ2_rangeCheckForAdd_5 (by decide) (fun c1 => absurd c1 ((nI_nlt hp hn))) (fun c1 => ?_)
  refine g_iload_n F dJ2_rangeCheckForAdd_8 1 rfl rfl ?_
  refine g_if_ge (tgt := 25) F dJ2_rangeCheckForAdd_9 (by decide) (fun c2 => ?_) (fun c2 => absurd c2 ((fun z => z (nI_pos' (by omega)))))
  exact g_vret F dJ2_rangeCheckForAdd_25 (⟨rfl, rfl⟩)
set_option maxHeartbeats 4000000 in
set_option maxRecDepth 100000 in
theorem ct_J2_add_3c {K : gK} {h h0 : AH} {pl a d y : Nat} {md : Int32} {l : Nat → Nat} (hl : h a = some (.inr (4, [.int md, .ref d, .int (nI 10)]))) (hNa : gNw K h0 a) (hE : gE h0 h) (hy : gOb h y) (hd : h d = some (.inl (gT K 6, 10, .inr (.inr (.inr (.inr (lsD l 10))))))) (hNd : gNw K h0 d) (hdn : gOld K d = none) (hob : ∀ i, i < 10 → gOb h (l i)) (hp : pl ≤ 10) : gCt K yJ2_add_3 w_J2_add_3 5 114 1 15 h [.ref a, .int (nI pl), .ref y] (pO (fun r h9 => r = none ∧ lsG K h0 h a d (10 + 1) (lsI l pl y) h9)) := by
  refine g_meth pf_J2_add_3 (nle rfl) (fun p e s m args below meth c F hnm htb => ?_)
  have F : gFix K p s m args meth c cJ2_add_3 5 RJ2 none := F
  refine g_eql (lv' := [(0, .ref a), (1, .int (nI pl)), (2, .ref y)]) rfl ?_
  refine g_aload_n F dJ2_add_3_0 0 rfl rfl ?_
  refine g_iload_n F dJ2_add_3_1 1 rfl rfl ?_
  refine g_callV F dJ2_add_3_2 mi_J2_rangeCheckForAdd q805 q807 qs4 gc_J2 hl (ct_J2_rangeCheckForAdd hl hp (by omega)) rfl rfl (nle rfl) (nle rfl) (nle rfl) (g_purv ?_) g_purvX
  refine g_aload_n F dJ2_add_3_5 0 rfl rfl ?_
  refine g_dup F dJ2_add_3_6 rfl ?_
  refine gf_J2_63_J2 (v := .int md) F dJ2_add_3_7 hl rfl ?_
  refine g_iconst (v := 1) F dJ2_add_3_10 rfl ?_
  refine g_iadd F dJ2_add_3_11 ?_
  refine gp_J2_63_J2 (fs' := [.int (md + 1), .ref d, .int (nI 10)]) F dJ2_add_3_12 hl hNa.2 (nle rfl) rfl (fun h_8 e9 => ?_)
  have x10 := gE.wr1 hE e9 hNa.1
  have f11 := gu_t e9 hd (gneB hd hl)
  have f12 := gu_a e9
  refine g_aload_n F dJ2_add_3_15 0 rfl rfl ?_
  refine gf_J2_48_J2 (v := .int (nI 10)) F dJ2_add_3_16 f12 rfl ?_
  refine g_dup F dJ2_add_3_19 rfl ?_
  refine g_istore_n (lv' := [(3, .int (nI 10)), (0, .ref a), (1, .int (nI pl)), (2, .ref y)]) F dJ2_add_3_20 rfl (by decide) rfl ?_
  refine g_aload_n F dJ2_add_3_21 1 rfl rfl ?_
  refine gf_J2_9_J2 (v := .ref d) F dJ2_add_3_22 f12 rfl ?_
  refine g_dup F dJ2_add_3_25 rfl ?_
  refine g_astore (lv' := [(4, .ref d), (3, .int (nI 10)), (0, .ref a), (1, .int (nI pl)), (2, .ref y)]) F dJ2_add_3_26 (by decide) rfl ?_
  refine g_alen F (by decide) f11 dJ2_add_3_28 ?_
  refine g_icmp_ne (tgt := 38) F dJ2_add_3_29 (by decide) (fun c13 => absurd c13 ((fun z => z rfl))) (fun c13 => ?_)
  refine g_aload_n F dJ2_add_3_32 2 rfl rfl ?_
  refine g_callV (b := 0) (bs := 0) F dJ2_add_3_33 mi_J2_grow q652 q654 qs2 gc_J2 f12 (ct_J2_growc f12 hNa.2 f11 hdn (fun i hi => (gOb.wo e9 hl (hob i hi)))) rfl rfl (nle rfl) (nle rfl) (nle rfl) (g_pO (fun v14 h_15 p16 => ?_)) g_pOX
  obtain ⟨q21, rfl, hn_e23, ho_e23, e22⟩ := p16
  obtain ⟨h_24, e23⟩ : ∃ h9, h9 = gu h_8 q21 (.inl (gT K 6, 15, .inr (.inr (.inr (.inr (lsD l 10)))))) := ⟨_, rfl⟩
  rw [← e23] at e22
  have w25 := gE.no x10 hn_e23
  have d26 := gnew hn_e23 f11
  have d27 := gnew hn_e23 f12
  have x28 := gE.new1 x10 e23 hn_e23
  have f29 := gu_t e23 f11 d26
  have f30 := gu_t e23 f12 d27
  have f31 := gu_a e23
  have x32 := gE.wr1 x28 e22 hNa.1
  have f33 := gu_t e22 f29 (gneB f29 f30)
  have f34 := gu_t e22 f31 (Ne.symm d27)
  have f35 := gu_a e22
  refine g_eqs (st' := [.ref q21]) rfl ?_
  refine g_astore (lv' := [(4, .ref q21), (3, .int (nI 10)), (0, .ref a), (1, .int (nI pl)), (2, .ref y)]) F dJ2_add_3_36 (by decide) rfl ?_
  refine g_aload F dJ2_add_3_38 0 rfl ?_
  refine g_iload_n F dJ2_add_3_40 3 rfl rfl ?_
  refine g_aload F dJ2_add_3_41 0 rfl ?_
  refine g_iload_n F dJ2_add_3_43 3 rfl rfl ?_
  refine g_iconst (v := 1) F dJ2_add_3_44 rfl ?_
  refine g_iadd F dJ2_add_3_45 ?_
  refine g_iload_n F dJ2_add_3_46 1 rfl rfl ?_
  refine g_iload_n F dJ2_add_3_47 3 rfl rfl ?_
  refine g_isub F dJ2_add_3_48 ?_
  refine g_eqs (st' := [.int (nI (10 - pl)), .int ((nI pl) + 1), .ref q21, .int (nI pl), .ref q21]) (by rw [← pk_sub hp]) ?_
  refine g_acpyQ F ⟨q1053, q718, q717, q94⟩ f34 ho_e23 f34 ho_e23 (nI_pos (by omega)) (by rw [nI_1]; exact nI_pos (by omega)) (nI_pos (by omega)) (by rw [nI_clamp (by omega), nI_clamp (by omega)]; omega) (by rw [nI_1, nI_clamp (by omega), nI_clamp (by omega)]; omega) (fun i hi z hz => lsD_ob (n := 10) (l := l) (fun i hi => (gOb.wo e22 f30 (gOb.to (gE.new1 gE.rf e23 hn_e23) (gOb.wo e9 hl (hob i hi))))) hz) (nle rfl) (nle rfl) dJ2_add_3_49 (fun h_36 e37 => ?_)
  rw [nI_clamp (show pl < 2 ^ 31 by omega), show (nI pl + 1).toNatClampNeg = pl + 1 by rw [nI_1, nI_clamp (by omega)], nI_clamp (show 10 - pl < 2 ^ 31 by omega)] at e37
  have x38 := gE.wr1 x32 e37 w25
  have f39 := gu_t e37 f33 d26
  have f40 := gu_t e37 f35 d27
  have f41 := gu_a e37
  refine g_aload F dJ2_add_3_52 0 rfl ?_
  refine g_iload_n F dJ2_add_3_54 3 rfl rfl ?_
  refine g_aload_n F dJ2_add_3_55 4 rfl rfl ?_
  refine g_aastO (i := pl) F (gOb.wr e37 f34 (gOb.wo e22 f30 (gOb.to (gE.new1 gE.rf e23 hn_e23) (gOb.wo e9 hl hy)))) f41 ho_e23 rfl (show pl = pl by omega) (by omega) (by decide) dJ2_add_3_56 (fun h_42 e43 => ?_)
  have x44 := gE.wr1 x38 e43 w25
  have f45 := gu_t e43 f39 d26
  have f46 := gu_t e43 f40 d27
  have f47 := gu_a e43
  refine g_aload_n F dJ2_add_3_57 2 rfl rfl ?_
  refine g_iload_n F dJ2_add_3_58 1 rfl rfl ?_
  refine g_iconst (v := 1) F dJ2_add_3_59 rfl ?_
  refine g_iadd F dJ2_add_3_60 ?_
  refine g_eqs (st' := [.int (nI (10 + 1)), .ref a]) (by rw [nI_1]) ?_
  refine gp_J2_48_J2 (fs' := [.int (md + 1), .ref q21, .int (nI (10 + 1))]) F dJ2_add_3_61 f46 hNa.2 (nle rfl) rfl (fun h_48 e49 => ?_)
  have x50 := gE.wr1 x44 e49 hNa.1
  have f51 := gu_t e49 f45 (gneB f45 f46)
  have f52 := gu_t e49 f47 (Ne.symm d27)
  have f53 := gu_a e49
  exact g_vret F dJ2_add_3_64 (⟨none, rfl, rfl, q21, _, ⟨f53, hNa, by omega, .inr ⟨by omega, ⟨w25, ho_e23⟩, ho_e23, by rw [← lsD_i hp]; exact f52⟩⟩, x50, .inr (gu_no e9 hn_e23), fun x ex hx n1 n2 => (gu_t e49 (gu_t e43 (gu_t e37 (gu_t e22 (gu_t e23 (gu_t e9 hx n1) (gnew hn_e23 (gu_t e9 hx n1))) n1) (gnew hn_e23 (gu_t e9 hx n1))) (gnew hn_e23 (gu_t e9 hx n1))) n1)⟩)
set_option maxHeartbeats 4000000 in
set_option maxRecDepth 100000 in
theorem ct_J2_add_3b {K : gK} {h h0 : AH} {pl a y : Nat} {md : Int32} {l : Nat → Nat} (hl : h a = some (.inr (4, [.int md, .ref (gAd K 203), .int (nI 0)]))) (hNa : gNw K h0 a) (hE : gE h0 h) (hy : gOb h y) (hob : ∀ i, i < 0 → gOb h (l i)) (hKA : gKA K) (hp : pl ≤ 0) : gCt K yJ2_add_3 w_J2_add_3 5 114 1 15 h [.ref a, .int (nI pl), .ref y] (pO (fun r h9 => r = none ∧ lsG K h0 h a (gAd K 203) (0 + 1) (lsI l pl y) h9)) := by
  refine g_meth pf_J2_add_3 (nle rfl) (fun p e s m args below meth c F hnm htb => ?_)
  have F : gFix K p s m args meth c cJ2_add_3 5 RJ2 none := F
  refine g_eql (lv' := [(0, .ref a), (1, .int (nI pl)), (2, .ref y)]) rfl ?_
  refine g_aload_n F dJ2_add_3_0 0 rfl rfl ?_
  refine g_iload_n F dJ2_add_3_1 1 rfl rfl ?_
  refine g_callV F dJ2_add_3_2 mi_J2_rangeCheckForAdd q805 q807 qs4 gc_J2 hl (ct_J2_rangeCheckForAdd hl hp (by omega)) rfl rfl (nle rfl) (nle rfl) (nle rfl) (g_purv ?_) g_purvX
  refine g_aload_n F dJ2_add_3_5 0 rfl rfl ?_
  refine g_dup F dJ2_add_3_6 rfl ?_
  refine gf_J2_63_J2 (v := .int md) F dJ2_add_3_7 hl rfl ?_
  refine g_iconst (v := 1) F dJ2_add_3_10 rfl ?_
  refine g_iadd F dJ2_add_3_11 ?_
  refine gp_J2_63_J2 (fs' := [.int (md + 1), .ref (gAd K 203), .int (nI 0)]) F dJ2_add_3_12 hl hNa.2 (nle rfl) rfl (fun h_8 e9 => ?_)
  have x10 := gE.wr1 hE e9 hNa.1
  have f11 := gu_a e9
  refine g_aload_n F dJ2_add_3_15 0 rfl rfl ?_
  refine gf_J2_48_J2 (v := .int (nI 0)) F dJ2_add_3_16 f11 rfl ?_
  refine g_dup F dJ2_add_3_19 rfl ?_
  refine g_istore_n (lv' := [(3, .int (nI 0)), (0, .ref a), (1, .int (nI pl)), (2, .ref y)]) F dJ2_add_3_20 rfl (by decide) rfl ?_
  refine g_aload_n F dJ2_add_3_21 1 rfl rfl ?_
  refine gf_J2_9_J2 (v := .ref (gAd K 203)) F dJ2_add_3_22 f11 rfl ?_
  refine g_dup F dJ2_add_3_25 rfl ?_
  refine g_astore (lv' := [(4, .ref (gAd K 203)), (3, .int (nI 0)), (0, .ref a), (1, .int (nI pl)), (2, .ref y)]) F dJ2_add_3_26 (by decide) rfl ?_
  refine g_old hKA (fun hE0 => ?_)
  refine g_alen F (by decide) hE0 dJ2_add_3_28 ?_
  refine g_icmp_ne (tgt := 38) F dJ2_add_3_29 (by decide) (fun c12 => absurd c12 ((fun z => z rfl))) (fun c12 => ?_)
  refine g_aload_n F dJ2_add_3_32 2 rfl rfl ?_
  refine g_callV (b := 0) (bs := 0) F dJ2_add_3_33 mi_J2_grow q652 q654 qs2 gc_J2 f11 (ct_J2_growb f11 hNa.2 hKA) rfl rfl (nle rfl) (nle rfl) (nle rfl) (g_pO (fun v13 h_14 p15 => ?_)) g_pOX
  obtain ⟨q20, rfl, hn_e22, ho_e22, e21⟩ := p15
  obtain ⟨h_23, e22⟩ : ∃ h9, h9 = gu h_8 q20 (.inl (gT K 6, 10, .inr (.inr (.inr (.inr (fun _ => none)))))) := ⟨_, rfl⟩
  rw [← e22] at e21
  have w24 := gE.no x10 hn_e22
  have d25 := gnew hn_e22 f11
  have x26 := gE.new1 x10 e22 hn_e22
  have f27 := gu_t e22 f11 d25
  have f28 := gu_a e22
  have x29 := gE.wr1 x26 e21 hNa.1
  have f30 := gu_t e21 f28 (Ne.symm d25)
  have f31 := gu_a e21
  refine g_eqs (st' := [.ref q20]) rfl ?_
  refine g_astore (lv' := [(4, .ref q20), (3, .int (nI 0)), (0, .ref a), (1, .int (nI pl)), (2, .ref y)]) F dJ2_add_3_36 (by decide) rfl ?_
  refine g_aload F dJ2_add_3_38 0 rfl ?_
  refine g_iload_n F dJ2_add_3_40 3 rfl rfl ?_
  refine g_aload F dJ2_add_3_41 0 rfl ?_
  refine g_iload_n F dJ2_add_3_43 3 rfl rfl ?_
  refine g_iconst (v := 1) F dJ2_add_3_44 rfl ?_
  refine g_iadd F dJ2_add_3_45 ?_
  refine g_iload_n F dJ2_add_3_46 1 rfl rfl ?_
  refine g_iload_n F dJ2_add_3_47 3 rfl rfl ?_
  refine g_isub F dJ2_add_3_48 ?_
  refine g_eqs (st' := [.int (nI (0 - pl)), .int ((nI pl) + 1), .ref q20, .int (nI pl), .ref q20]) (by rw [← pk_sub hp]) ?_
  refine g_acpyQ F ⟨q1053, q718, q717, q94⟩ f30 ho_e22 f30 ho_e22 (nI_pos (by omega)) (by rw [nI_1]; exact nI_pos (by omega)) (nI_pos (by omega)) (by rw [nI_clamp (by omega), nI_clamp (by omega)]; omega) (by rw [nI_1, nI_clamp (by omega), nI_clamp (by omega)]; omega) (fun i hi z hz => (nomatch hz)) (nle rfl) (nle rfl) dJ2_add_3_49 (fun h_32 e33 => ?_)
  rw [nI_clamp (show pl < 2 ^ 31 by omega), show (nI pl + 1).toNatClampNeg = pl + 1 by rw [nI_1, nI_clamp (by omega)], nI_clamp (show 0 - pl < 2 ^ 31 by omega)] at e33
  have x34 := gE.wr1 x29 e33 w24
  have f35 := gu_t e33 f31 d25
  have f36 := gu_a e33
  refine g_aload F dJ2_add_3_52 0 rfl ?_
  refine g_iload_n F dJ2_add_3_54 3 rfl rfl ?_
  refine g_aload_n F dJ2_add_3_55 4 rfl rfl ?_
  refine g_aastO (i := pl) F (gOb.wr e33 f30 (gOb.wo e21 f27 (gOb.to (gE.new1 gE.rf e22 hn_e22) (gOb.wo e9 hl hy)))) f36 ho_e22 rfl (show pl = pl by omega) (by omega) (by decide) dJ2_add_3_56 (fun h_37 e38 => ?_)
  have x39 := gE.wr1 x34 e38 w24
  have f40 := gu_t e38 f35 d25
  have f41 := gu_a e38
  refine g_aload_n F dJ2_add_3_57 2 rfl rfl ?_
  refine g_iload_n F dJ2_add_3_58 1 rfl rfl ?_
  refine g_iconst (v := 1) F dJ2_add_3_59 rfl ?_
  refine g_iadd F dJ2_add_3_60 ?_
  refine g_eqs (st' := [.int (nI (0 + 1)), .ref a]) (by rw [nI_1]) ?_
  refine gp_J2_48_J2 (fs' := [.int (md + 1), .ref q20, .int (nI (0 + 1))]) F dJ2_add_3_61 f40 hNa.2 (nle rfl) rfl (fun h_42 e43 => ?_)
  have x44 := gE.wr1 x39 e43 hNa.1
  have f45 := gu_t e43 f41 (Ne.symm d25)
  have f46 := gu_a e43
  exact g_vret F dJ2_add_3_64 (⟨none, rfl, rfl, q20, _, ⟨f46, hNa, by omega, .inr ⟨by omega, ⟨w24, ho_e22⟩, ho_e22, by rw [← lsD_i hp, ← lsD_none]; exact f45⟩⟩, x44, .inr (gu_no e9 hn_e22), fun x ex hx n1 n2 => (gu_t e43 (gu_t e38 (gu_t e33 (gu_t e21 (gu_t e22 (gu_t e9 hx n1) (gnew hn_e22 (gu_t e9 hx n1))) n1) (gnew hn_e22 (gu_t e9 hx n1))) (gnew hn_e22 (gu_t e9 hx n1))) n1)⟩)
set_option maxHeartbeats 4000000 in
set_option maxRecDepth 100000 in
theorem ct_J2_add_3a {K : gK} {h h0 : AH} {pl a d y n : Nat} {md : Int32} {l : Nat → Nat} (hl : h a = some (.inr (4, [.int md, .ref d, .int (nI n)]))) (hNa : gNw K h0 a) (hE : gE h0 h) (hy : gOb h y) (hd : h d = some (.inl (gT K 6, cpO n, .inr (.inr (.inr (.inr (lsD l n))))))) (hNd : gNw K h0 d) (hdn : gOld K d = none) (q0 : n ≠ 0) (q10 : n ≠ 10) (q15 : n < 15) (hp : pl ≤ n) (hob : ∀ i, i < n → gOb h (l i)) : gCt K yJ2_add_3 w_J2_add_3 5 114 1 15 h [.ref a, .int (nI pl), .ref y] (pO (fun r h9 => r = none ∧ lsG K h0 h a d (n + 1) (lsI l pl y) h9)) := by
  refine g_meth pf_J2_add_3 (nle rfl) (fun p e s m args below meth c F hnm htb => ?_)
  have F : gFix K p s m args meth c cJ2_add_3 5 RJ2 none := F
  refine g_eql (lv' := [(0, .ref a), (1, .int (nI pl)), (2, .ref y)]) rfl ?_
  obtain ⟨hcp1, hcp2⟩ := cpO_s q0 q10 q15
  have hc15 : cpO n ≤ 15 := cpO_15
  refine g_aload_n F dJ2_add_3_0 0 rfl rfl ?_
  refine g_iload_n F dJ2_add_3_1 1 rfl rfl ?_
  refine g_callV F dJ2_add_3_2 mi_J2_rangeCheckForAdd q805 q807 qs4 gc_J2 hl (ct_J2_rangeCheckForAdd hl hp (by omega)) rfl rfl (nle rfl) (nle rfl) (nle rfl) (g_purv ?_) g_purvX
  refine g_aload_n F dJ2_add_3_5 0 rfl rfl ?_
  refine g_dup F dJ2_add_3_6 rfl ?_
  refine gf_J2_63_J2 (v := .int md) F dJ2_add_3_7 hl rfl ?_
  refine g_iconst (v := 1) F dJ2_add_3_10 rfl ?_
  refine g_iadd F dJ2_add_3_11 ?_
  refine gp_J2_63_J2 (fs' := [.int (md + 1), .ref d, .int (nI n)]) F dJ2_add_3_12 hl hNa.2 (nle rfl) rfl (fun h_8 e9 => ?_)
  have x10 := gE.wr1 hE e9 hNa.1
  have f11 := gu_t e9 hd (gneB hd hl)
  have f12 := gu_a e9
  refine g_aload_n F dJ2_add_3_15 0 rfl rfl ?_
  refine gf_J2_48_J2 (v := .int (nI n)) F dJ2_add_3_16 f12 rfl ?_
  refine g_dup F dJ2_add_3_19 rfl ?_
  refine g_istore_n (lv' := [(3, .int (nI n)), (0, .ref a), (1, .int (nI pl)), (2, .ref y)]) F dJ2_add_3_20 rfl (by decide) rfl ?_
  refine g_aload_n F dJ2_add_3_21 1 rfl rfl ?_
  refine gf_J2_9_J2 (v := .ref d) F dJ2_add_3_22 f12 rfl ?_
  refine g_dup F dJ2_add_3_25 rfl ?_
  refine g_astore (lv' := [(4, .ref d), (3, .int (nI n)), (0, .ref a), (1, .int (nI pl)), (2, .ref y)]) F dJ2_add_3_26 (by decide) rfl ?_
  refine g_alen F (by decide) f11 dJ2_add_3_28 ?_
  refine g_icmp_ne (tgt := 38) F dJ2_add_3_29 (by decide) (fun c13 => ?_) (fun c13 => absurd c13 ((fun z => by have := (nI_eq (by omega) (by omega)).mp z; omega)))
  refine g_aload F dJ2_add_3_38 0 rfl ?_
  refine g_iload_n F dJ2_add_3_40 3 rfl rfl ?_
  refine g_aload F dJ2_add_3_41 0 rfl ?_
  refine g_iload_n F dJ2_add_3_43 3 rfl rfl ?_
  refine g_iconst (v := 1) F dJ2_add_3_44 rfl ?_
  refine g_iadd F dJ2_add_3_45 ?_
  refine g_iload_n F dJ2_add_3_46 1 rfl rfl ?_
  refine g_iload_n F dJ2_add_3_47 3 rfl rfl ?_
  refine g_isub F dJ2_add_3_48 ?_
  refine g_eqs (st' := [.int (nI (n - pl)), .int ((nI pl) + 1), .ref d, .int (nI pl), .ref d]) (by rw [← pk_sub hp]) ?_
  refine g_acpyQ F ⟨q1053, q718, q717, q94⟩ f11 hdn f11 hdn (nI_pos (by omega)) (by rw [nI_1]; exact nI_pos (by omega)) (nI_pos (by omega)) (by rw [nI_clamp (by omega), nI_clamp (by omega)]; omega) (by rw [nI_1, nI_clamp (by omega), nI_clamp (by omega)]; omega) (fun i hi z hz => lsD_ob (n := n) (l := l) (fun i hi => (gOb.wo e9 hl (hob i hi))) hz) (nle rfl) (nle rfl) dJ2_add_3_49 (fun h_14 e15 => ?_)
  rw [nI_clamp (show pl < 2 ^ 31 by omega), show (nI pl + 1).toNatClampNeg = pl + 1 by rw [nI_1, nI_clamp (by omega)], nI_clamp (show n - pl < 2 ^ 31 by omega)] at e15
  have x16 := gE.wr1 x10 e15 hNd.1
  have f17 := gu_t e15 f12 (gneA f12 f11)
  have f18 := gu_a e15
  refine g_aload F dJ2_add_3_52 0 rfl ?_
  refine g_iload_n F dJ2_add_3_54 3 rfl rfl ?_
  refine g_aload_n F dJ2_add_3_55 4 rfl rfl ?_
  refine g_aastO (i := pl) F (gOb.wr e15 f11 (gOb.wo e9 hl hy)) f18 hdn rfl (show pl = pl by omega) (by omega) (by omega) dJ2_add_3_56 (fun h_19 e20 => ?_)
  have x21 := gE.wr1 x16 e20 hNd.1
  have f22 := gu_t e20 f17 (gneA f17 f18)
  have f23 := gu_a e20
  refine g_aload_n F dJ2_add_3_57 2 rfl rfl ?_
  refine g_iload_n F dJ2_add_3_58 1 rfl rfl ?_
  refine g_iconst (v := 1) F dJ2_add_3_59 rfl ?_
  refine g_iadd F dJ2_add_3_60 ?_
  refine g_eqs (st' := [.int (nI (n + 1)), .ref a]) (by rw [nI_1]) ?_
  refine gp_J2_48_J2 (fs' := [.int (md + 1), .ref d, .int (nI (n + 1))]) F dJ2_add_3_61 f22 hNa.2 (nle rfl) rfl (fun h_24 e25 => ?_)
  have x26 := gE.wr1 x21 e25 hNa.1
  have f27 := gu_t e25 f23 (gneB f23 f22)
  have f28 := gu_a e25
  exact g_vret F dJ2_add_3_64 (⟨none, rfl, rfl, d, _, ⟨f28, hNa, by omega, .inr ⟨by omega, hNd, hdn, by rw [hcp1, ← lsD_i hp]; exact f27⟩⟩, x26, .inl rfl, fun x ex hx n1 n2 => (gu_t e25 (gu_t e20 (gu_t e15 (gu_t e9 hx n1) (n2 (by omega))) (n2 (by omega))) n1)⟩)
theorem ct_J2_add_3L {K : gK} {h h0 : AH} {a d n pl y : Nat} {l : Nat → Nat} {md : Int32} (hl : lsO K (gNw K h0) h a d n l md) (hE : gE h0 h) (hn : n < 15) (hob : ∀ i, i < n → gOb h (l i)) (hy : gOb h y) (hKA : gKA K) (hp : pl ≤ n) : gCt K yJ2_add_3 w_J2_add_3 5 114 1 15 h [.ref a, .int (nI pl), .ref y] (pO (fun r h9 => r = none ∧ lsG K h0 h a d (n + 1) (lsI l pl y) h9)) := by
  obtain ⟨h1, h2, h3, h4⟩ := hl
  rcases h4 with ⟨rfl, rfl⟩ | ⟨q1, q2, q3, q4⟩
  · exact ct_J2_add_3b h1 h2 hE hy hob hKA hp
  · by_cases q : n = 10
    · subst q; exact ct_J2_add_3c h1 h2 hE hy q4 q2 q3 hob hp
    · exact ct_J2_add_3a h1 h2 hE hy q4 q2 q3 (by omega) q hn hp hob
