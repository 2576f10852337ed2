/-! ===== Rows, iterators, refusals (written by tools/class4.py) ===== -/
theorem va_rf_c (r : Option Nat) : va_rf r = .null ∨ ∃ a, va_rf r = .ref a := by
  rcases r with _ | a
  · exact .inl rfl
  · exact .inr ⟨a, rfl⟩
set_option maxHeartbeats 4000000 in
set_option maxRecDepth 100000 in
theorem ct_J11_init_3_X10 {K : gK} {h : AH} {a : Nat} (h0 : h a = some (.inr (20, [.null, .null, .null, .null, .null, .int 0, .int 0, .int 0]))) (ho : gOld K a = none) : gCt K yJ11_init_3 w_J11_init_3 1 12 0 0 h [.ref a, .null, .null, .int 0, .int 0] (pV h) := by
  refine g_meth pf_J11_init_3 (nle rfl) (fun p e s m args below meth c F hnm htb => ?_)
  have F : gFix K p s m args meth c cJ11_init_3 5 RJ11 none := F
  refine g_eql (lv' := [(0, .ref a), (1, .null), (2, .null), (3, .int 0), (4, .int 0)]) rfl ?_
  refine g_aload_n F dJ11_init_3_0 0 rfl rfl ?_
  refine g_objInit F q446 q124 q125 dJ11_init_3_1 (nle rfl) (nle rfl) ?_
  refine g_aload_n F dJ11_init_3_4 0 rfl rfl ?_
  refine g_aload_n F dJ11_init_3_5 0 rfl rfl ?_
  refine gp_J11_7_X10 (fs' := [.ref a, .null, .null, .null, .null, .int 0, .int 0, .int 0]) F dJ11_init_3_6 (Or.inr ⟨_, rfl⟩) h0 ho (nle rfl) rfl (fun h_1 e2 => ?_)
  have f3 := gu_a e2
  refine g_aload_n F dJ11_init_3_9 0 rfl rfl ?_
  refine g_getsq F F.hZ.2.1.1 q447 (fun _ h9 => h9) dJ11_init_3_10 (fun r4 => ?_)
  refine gp_J11_17_X10 (fs' := [.ref a, va_rf r4, .null, .null, .null, .int 0, .int 0, .int 0]) F dJ11_init_3_13 (va_rf_c _) f3 ho (nle rfl) rfl (fun h_5 e6 => ?_)
  have f7 := gu_a e6
  refine g_aload_n F dJ11_init_3_16 0 rfl rfl ?_
  refine g_getsq F F.hZ.2.2.1.1 q449 (fun _ h9 => h9) dJ11_init_3_17 (fun r8 => ?_)
  refine gp_J11_24_X10 (fs' := [.ref a, va_rf r4, va_rf r8, .null, .null, .int 0, .int 0, .int 0]) F dJ11_init_3_20 (va_rf_c _) f7 ho (nle rfl) rfl (fun h_9 e10 => ?_)
  have f11 := gu_a e10
  refine g_iload F dJ11_init_3_23 4 rfl ?_
  refine g_if_eq (tgt := 36) F dJ11_init_3_25 (by decide) (fun c12 => ?_) (fun c12 => absurd c12 (by decide))
  refine g_aload_n F dJ11_init_3_36 0 rfl rfl ?_
  refine g_null F dJ11_init_3_37 ?_
  refine gp_J11_17_X10 (fs' := [.ref a, .null, va_rf r8, .null, .null, .int 0, .int 0, .int 0]) F dJ11_init_3_38 (Or.inl rfl) f11 ho (nle rfl) rfl (fun h_13 e14 => ?_)
  have f15 := gu_a e14
  refine g_aload_n F dJ11_init_3_41 0 rfl rfl ?_
  refine g_aload_nN F dJ11_init_3_42 1 rfl rfl ?_
  refine gp_J11_31_X10 (fs' := [.ref a, .null, va_rf r8, .null, .null, .int 0, .int 0, .int 0]) F dJ11_init_3_43 (Or.inl rfl) f15 ho (nle rfl) rfl (fun h_16 e17 => ?_)
  have f18 := gu_a e17
  refine g_aload_n F dJ11_init_3_46 0 rfl rfl ?_
  refine g_aload_nN F dJ11_init_3_47 2 rfl rfl ?_
  refine gp_J11_7_X10 (fs' := [.null, .null, va_rf r8, .null, .null, .int 0, .int 0, .int 0]) F dJ11_init_3_48 (Or.inl rfl) f18 ho (nle rfl) rfl (fun h_19 e20 => ?_)
  have f21 := gu_a e20
  refine g_iload_n F dJ11_init_3_51 3 rfl rfl ?_
  refine g_if_ne (tgt := 60) F dJ11_init_3_52 (by decide) (fun c22 => absurd c22 (by decide)) (fun c22 => ?_)
  refine g_aload_n F dJ11_init_3_55 0 rfl rfl ?_
  refine g_null F dJ11_init_3_56 ?_
  refine gp_J11_24_X10 (fs' := [.null, .null, .null, .null, .null, .int 0, .int 0, .int 0]) F dJ11_init_3_57 (Or.inl rfl) f21 ho (nle rfl) rfl (fun h_23 e24 => ?_)
  have f25 := gu_a e24
  exact g_vret F dJ11_init_3_60 (⟨rfl, by rw [e24, e20, e17, e14, e10, e6, e2, gu_gu, gu_gu, gu_gu, gu_gu, gu_gu, gu_gu]; exact gu_id h0⟩)
set_option maxHeartbeats 4000000 in
set_option maxRecDepth 100000 in
theorem ct_J12_init_3_X10 {K : gK} {h : AH} {a : Nat} (h0 : h a = some (.inr (20, [.null, .null, .null, .null, .null, .int 0, .int 0, .int 0]))) (ho : gOld K a = none) : gCt K yJ12_init_3 w_J12_init_3 2 36 0 0 h [.ref a, .null, .null, .int 0, .int 0] (pV h) := by
  refine g_meth pf_J12_init_3 (nle rfl) (fun p e s m args below meth c F hnm htb => ?_)
  have F : gFix K p s m args meth c cJ12_init_3 5 RJ12 none := F
  refine g_eql (lv' := [(0, .ref a), (1, .null), (2, .null), (3, .int 0), (4, .int 0)]) rfl ?_
  refine g_aload_n F dJ12_init_3_0 0 rfl rfl ?_
  refine g_aload_nN F dJ12_init_3_1 1 rfl rfl ?_
  refine g_aload_nN F dJ12_init_3_2 2 rfl rfl ?_
  refine g_iload_n F dJ12_init_3_3 3 rfl rfl ?_
  refine g_iload F dJ12_init_3_4 4 rfl ?_
  refine g_callI F dJ12_init_3_6 mi_J11_init_3 rfl q1160 q1161 (ct_J11_init_3_X10 h0 ho) rfl rfl (nle rfl) (nle rfl) (nle rfl) (g_purv ?_) g_purvX
  exact g_vret F dJ12_init_3_9 (⟨rfl, rfl⟩)
set_option maxHeartbeats 4000000 in
set_option maxRecDepth 100000 in
theorem ct_X10_init {K : gK} {h : AH} {a : Nat} (h0 : h a = some (.inr (20, [.null, .null, .null, .null, .null, .int 0, .int 0, .int 0]))) (ho : gOld K a = none) {x y : Int32} : gCt K yX10_init w_X10_init 3 60 0 0 h [.ref a, .int x, .int y] (pV (gu h a (.inr (20, [.null, .null, .null, .null, .null, .int 0, .int x, .int y])))) := by
  refine g_meth pf_X10_init (nle rfl) (fun p e s m args below meth c F hnm htb => ?_)
  have F : gFix K p s m args meth c cX10_init 3 RX10 none := F
  refine g_eql (lv' := [(0, .ref a), (1, .int x), (2, .int y)]) rfl ?_
  refine g_aload_n F dX10_init_0 0 rfl rfl ?_
  refine g_null F dX10_init_1 ?_
  refine g_null F dX10_init_2 ?_
  refine g_iconst (v := 0) F dX10_init_3 rfl ?_
  refine g_iconst (v := 0) F dX10_init_4 rfl ?_
  refine g_callI F dX10_init_5 mi_J12_init_3 rfl q1157 q1158 (ct_J12_init_3_X10 h0 ho) rfl rfl (nle rfl) (nle rfl) (nle rfl) (g_purv ?_) g_purvX
  refine g_aload_n F dX10_init_8 0 rfl rfl ?_
  refine g_iload_n F dX10_init_9 1 rfl rfl ?_
  refine gp_X10_7_X10 (fs' := [.null, .null, .null, .null, .null, .int 0, .int x, .int 0]) F hnm dX10_init_10 h0 ho (nle rfl) rfl (fun h_8 e9 => ?_)
  have f10 := gu_a e9
  refine g_aload_n F dX10_init_13 0 rfl rfl ?_
  refine g_iload_n F dX10_init_14 2 rfl rfl ?_
  refine gp_X10_13_X10 (fs' := [.null, .null, .null, .null, .null, .int 0, .int x, .int y]) F hnm dX10_init_15 f10 ho (nle rfl) rfl (fun h_11 e12 => ?_)
  have f13 := gu_a e12
  exact g_vret F dX10_init_18 (⟨rfl, by rw [e12, e9, gu_gu]⟩)
set_option maxHeartbeats 4000000 in
set_option maxRecDepth 100000 in
theorem ct_J11_init_3_X20 {K : gK} {h : AH} {a : Nat} (h0 : h a = some (.inr (21, [.null, .null, .null, .null, .null, .int 0, .int 0]))) (ho : gOld K a = none) : gCt K yJ11_init_3 w_J11_init_3 1 12 0 0 h [.ref a, .null, .null, .int 0, .int 0] (pV h) := by
  refine g_meth pf_J11_init_3 (nle rfl) (fun p e s m args below meth c F hnm htb => ?_)
  have F : gFix K p s m args meth c cJ11_init_3 5 RJ11 none := F
  refine g_eql (lv' := [(0, .ref a), (1, .null), (2, .null), (3, .int 0), (4, .int 0)]) rfl ?_
  refine g_aload_n F dJ11_init_3_0 0 rfl rfl ?_
  refine g_objInit F q446 q124 q125 dJ11_init_3_1 (nle rfl) (nle rfl) ?_
  refine g_aload_n F dJ11_init_3_4 0 rfl rfl ?_
  refine g_aload_n F dJ11_init_3_5 0 rfl rfl ?_
  refine gp_J11_7_X20 (fs' := [.ref a, .null, .null, .null, .null, .int 0, .int 0]) F dJ11_init_3_6 (Or.inr ⟨_, rfl⟩) h0 ho (nle rfl) rfl (fun h_1 e2 => ?_)
  have f3 := gu_a e2
  refine g_aload_n F dJ11_init_3_9 0 rfl rfl ?_
  refine g_getsq F F.hZ.2.1.1 q447 (fun _ h9 => h9) dJ11_init_3_10 (fun r4 => ?_)
  refine gp_J11_17_X20 (fs' := [.ref a, va_rf r4, .null, .null, .null, .int 0, .int 0]) F dJ11_init_3_13 (va_rf_c _) f3 ho (nle rfl) rfl (fun h_5 e6 => ?_)
  have f7 := gu_a e6
  refine g_aload_n F dJ11_init_3_16 0 rfl rfl ?_
  refine g_getsq F F.hZ.2.2.1.1 q449 (fun _ h9 => h9) dJ11_init_3_17 (fun r8 => ?_)
  refine gp_J11_24_X20 (fs' := [.ref a, va_rf r4, va_rf r8, .null, .null, .int 0, .int 0]) F dJ11_init_3_20 (va_rf_c _) f7 ho (nle rfl) rfl (fun h_9 e10 => ?_)
  have f11 := gu_a e10
  refine g_iload F dJ11_init_3_23 4 rfl ?_
  refine g_if_eq (tgt := 36) F dJ11_init_3_25 (by decide) (fun c12 => ?_) (fun c12 => absurd c12 (by decide))
  refine g_aload_n F dJ11_init_3_36 0 rfl rfl ?_
  refine g_null F dJ11_init_3_37 ?_
  refine gp_J11_17_X20 (fs' := [.ref a, .null, va_rf r8, .null, .null, .int 0, .int 0]) F dJ11_init_3_38 (Or.inl rfl) f11 ho (nle rfl) rfl (fun h_13 e14 => ?_)
  have f15 := gu_a e14
  refine g_aload_n F dJ11_init_3_41 0 rfl rfl ?_
  refine g_aload_nN F dJ11_init_3_42 1 rfl rfl ?_
  refine gp_J11_31_X20 (fs' := [.ref a, .null, va_rf r8, .null, .null, .int 0, .int 0]) F dJ11_init_3_43 (Or.inl rfl) f15 ho (nle rfl) rfl (fun h_16 e17 => ?_)
  have f18 := gu_a e17
  refine g_aload_n F dJ11_init_3_46 0 rfl rfl ?_
  refine g_aload_nN F dJ11_init_3_47 2 rfl rfl ?_
  refine gp_J11_7_X20 (fs' := [.null, .null, va_rf r8, .null, .null, .int 0, .int 0]) F dJ11_init_3_48 (Or.inl rfl) f18 ho (nle rfl) rfl (fun h_19 e20 => ?_)
  have f21 := gu_a e20
  refine g_iload_n F dJ11_init_3_51 3 rfl rfl ?_
  refine g_if_ne (tgt := 60) F dJ11_init_3_52 (by decide) (fun c22 => absurd c22 (by decide)) (fun c22 => ?_)
  refine g_aload_n F dJ11_init_3_55 0 rfl rfl ?_
  refine g_null F dJ11_init_3_56 ?_
  refine gp_J11_24_X20 (fs' := [.null, .null, .null, .null, .null, .int 0, .int 0]) F dJ11_init_3_57 (Or.inl rfl) f21 ho (nle rfl) rfl (fun h_23 e24 => ?_)
  have f25 := gu_a e24
  exact g_vret F dJ11_init_3_60 (⟨rfl, by rw [e24, e20, e17, e14, e10, e6, e2, gu_gu, gu_gu, gu_gu, gu_gu, gu_gu, gu_gu]; exact gu_id h0⟩)
set_option maxHeartbeats 4000000 in
set_option maxRecDepth 100000 in
theorem ct_J12_init_3_X20 {K : gK} {h : AH} {a : Nat} (h0 : h a = some (.inr (21, [.null, .null, .null, .null, .null, .int 0, .int 0]))) (ho : gOld K a = none) : gCt K yJ12_init_3 w_J12_init_3 2 36 0 0 h [.ref a, .null, .null, .int 0, .int 0] (pV h) := by
  refine g_meth pf_J12_init_3 (nle rfl) (fun p e s m args below meth c F hnm htb => ?_)
  have F : gFix K p s m args meth c cJ12_init_3 5 RJ12 none := F
  refine g_eql (lv' := [(0, .ref a), (1, .null), (2, .null), (3, .int 0), (4, .int 0)]) rfl ?_
  refine g_aload_n F dJ12_init_3_0 0 rfl rfl ?_
  refine g_aload_nN F dJ12_init_3_1 1 rfl rfl ?_
  refine g_aload_nN F dJ12_init_3_2 2 rfl rfl ?_
  refine g_iload_n F dJ12_init_3_3 3 rfl rfl ?_
  refine g_iload F dJ12_init_3_4 4 rfl ?_
  refine g_callI F dJ12_init_3_6 mi_J11_init_3 rfl q1160 q1161 (ct_J11_init_3_X20 h0 ho) rfl rfl (nle rfl) (nle rfl) (nle rfl) (g_purv ?_) g_purvX
  exact g_vret F dJ12_init_3_9 (⟨rfl, rfl⟩)
set_option maxHeartbeats 4000000 in
set_option maxRecDepth 100000 in
theorem ct_X20_init {K : gK} {h : AH} {a : Nat} (h0 : h a = some (.inr (21, [.null, .null, .null, .null, .null, .int 0, .int 0]))) (ho : gOld K a = none) {x : Int32} : gCt K yX20_init w_X20_init 3 60 0 0 h [.ref a, .int x] (pV (gu h a (.inr (21, [.null, .null, .null, .null, .null, .int 0, .int x])))) := by
  refine g_meth pf_X20_init (nle rfl) (fun p e s m args below meth c F hnm htb => ?_)
  have F : gFix K p s m args meth c cX20_init 2 RX20 none := F
  refine g_eql (lv' := [(0, .ref a), (1, .int x)]) rfl ?_
  refine g_aload_n F dX20_init_0 0 rfl rfl ?_
  refine g_null F dX20_init_1 ?_
  refine g_null F dX20_init_2 ?_
  refine g_iconst (v := 0) F dX20_init_3 rfl ?_
  refine g_iconst (v := 0) F dX20_init_4 rfl ?_
  refine g_callI F dX20_init_5 mi_J12_init_3 rfl q2161 q1158 (ct_J12_init_3_X20 h0 ho) rfl rfl (nle rfl) (nle rfl) (nle rfl) (g_purv ?_) g_purvX
  refine g_aload_n F dX20_init_8 0 rfl rfl ?_
  refine g_iload_n F dX20_init_9 1 rfl rfl ?_
  refine gp_X20_7_X20 (fs' := [.null, .null, .null, .null, .null, .int 0, .int x]) F hnm dX20_init_10 h0 ho (nle rfl) rfl (fun h_8 e9 => ?_)
  have f10 := gu_a e9
  exact g_vret F dX20_init_13 (⟨rfl, by rw [e9]⟩)
set_option maxHeartbeats 4000000 in
set_option maxRecDepth 100000 in
theorem ct_X10_check {K : gK} {h : AH} {x y z : Int32} (hx : x ≠ 0) : gCt K yX10_check w_X10_check 0 0 0 0 h [.int x, .int y, .int z] (pV h) := by
  refine g_meth pf_X10_check (nle rfl) (fun p e s m args below meth c F hnm htb => ?_)
  have F : gFix K p s m args meth c cX10_check 3 RX10 none := F
  refine g_eql (lv' := [(0, .int x), (1, .int y), (2, .int z)]) rfl ?_
  refine g_iload_n F dX10_check_0 0 rfl rfl ?_
  refine g_if_ne (tgt := 14) F dX10_check_1 (by decide) (fun c1 => ?_) (fun c1 => absurd c1 (hx))
  exact g_vret F dX10_check_14 (⟨rfl, rfl⟩)
set_option maxHeartbeats 4000000 in
set_option maxRecDepth 100000 in
theorem cx_X10_check {K : gK} {h : AH} {y z : Int32} : gCt K yX10_check w_X10_check 4 82 1 8 h [.int 0, .int y, .int z] (pX (tX h 20 [.null, .null, .null, .null, .null, .int 0, .int y, .int z])) := by
  refine g_meth pf_X10_check (nle rfl) (fun p e s m args below meth c F hnm htb => ?_)
  have F : gFix K p s m args meth c cX10_check 3 RX10 none := F
  refine g_eql (lv' := [(0, .int 0), (1, .int y), (2, .int z)]) rfl ?_
  refine g_iload_n F dX10_check_0 0 rfl rfl ?_
  refine g_if_ne (tgt := 14) F dX10_check_1 (by decide) (fun c1 => absurd c1 (by decide)) (fun c1 => ?_)
  refine g_new (fs := [.null, .null, .null, .null, .null, .int 0, .int 0, .int 0]) (b := 0) (bs := 0) F in_X10 tyX10 tyX10_ok q1145 q1146 q102 gc_X10 nf_X10 dX10_check_4 (fun q2 h_3 hn_e4 ho_e4 e4 => ?_)
  have w5 := gE.no gE.rf hn_e4
  have x6 := gE.new1 gE.rf e4 hn_e4
  have f7 := gu_a e4
  refine g_dup F dX10_check_7 rfl ?_
  refine g_iload_n F dX10_check_8 1 rfl rfl ?_
  refine g_iload_n F dX10_check_9 2 rfl rfl ?_
  refine g_callI F dX10_check_10 mi_X10_init rfl q1154 q1155 (ct_X10_init f7 ho_e4) rfl rfl (nle rfl) (nle rfl) (nle rfl) (g_purv ?_) g_purvX
  refine g_gen (fun h_15 e16 => ?_)
  have x17 := gE.wr1 x6 e16 w5
  have e18 := (by rw [e16, e4, gu_gu] : h_15 = gu h q2 _)
  have f19 := gu_a e16
  refine g_athrow F dX10_check_13 ?_
  exact gx_out F (fun x hx => (htb x hx).elim) gc_X10 f19 ho_e4 (⟨_, rfl, f19, x17⟩)
theorem ct_J2_getL {K : gK} {N : Nat → Prop} {h : AH} {a d n : Nat} {l : Nat → Nat} {md : Int32} (hl : lsO K N h a d n l md) {x : Int32} {i : Nat} (hx : x = nI i) (hi : i < n) : gCt K yJ2_get w_J2_get 2 43 0 0 h [.ref a, .int x] (pR (.ref (l i)) h) := by
  obtain ⟨q1, q2, q3⟩ := lsO.ar hl hi
  exact ct_J2_get hl.1 q3 hx hi (cpO_le hl.2.2.1) (Nat.lt_of_le_of_lt cpO_15 (by decide)) q1
set_option maxHeartbeats 4000000 in
set_option maxRecDepth 100000 in
theorem ct_J1_init {K : gK} {h : AH} {a : Nat} (h0 : h a = some (.inr (4, [.int 0, .null, .int 0]))) (ho : gOld K a = none) : gCt K yJ1_init w_J1_init 2 32 0 0 h [.ref a] (pV h) := by
  refine g_meth pf_J1_init (nle rfl) (fun p e s m args below meth c F hnm htb => ?_)
  have F : gFix K p s m args meth c cJ1_init 1 RJ1 none := F
  refine g_eql (lv' := [(0, .ref a)]) rfl ?_
  refine g_aload_n F dJ1_init_0 0 rfl rfl ?_
  refine g_callI F dJ1_init_1 mi_J0_init rfl q146 q147 ct_J0_init rfl rfl (nle rfl) (nle rfl) (nle rfl) (g_purv ?_) g_purvX
  refine g_aload_n F dJ1_init_4 0 rfl rfl ?_
  refine g_iconst (v := 0) F dJ1_init_5 rfl ?_
  refine gp_J1_7_J2 (fs' := [.int 0, .null, .int 0]) F dJ1_init_6 h0 ho (nle rfl) rfl (fun h_8 e9 => ?_)
  have f10 := gu_a e9
  exact g_vret F dJ1_init_9 (⟨rfl, by rw [e9]; exact gu_id h0⟩)
set_option maxHeartbeats 4000000 in
set_option maxRecDepth 100000 in
theorem ct_J2_init {K : gK} {h : AH} {a : Nat} (h0 : h a = some (.inr (4, [.int 0, .null, .int 0]))) (ho : gOld K a = none) : gCt K yJ2_init w_J2_init 3 52 0 0 h [.ref a] (pV (gu h a (.inr (4, [.int 0, .ref (gAd K 203), .int 0])))) := by
  refine g_meth pf_J2_init (nle rfl) (fun p e s m args below meth c F hnm htb => ?_)
  have F : gFix K p s m args meth c cJ2_init 1 RJ2 none := F
  refine g_eql (lv' := [(0, .ref a)]) rfl ?_
  refine g_aload_n F dJ2_init_0 0 rfl rfl ?_
  refine g_callI F dJ2_init_1 mi_J1_init rfl q143 q144 (ct_J1_init h0 ho) rfl rfl (nle rfl) (nle rfl) (nle rfl) (g_purv ?_) g_purvX
  refine g_aload_n F dJ2_init_4 0 rfl rfl ?_
  refine g_gets F (gZs_3 K) q150 (fun _ h9 => h9) dJ2_init_5 ?_
  refine gp_J2_9_J2 (fs' := [.int 0, .ref (gAd K 203), .int 0]) F dJ2_init_8 (Or.inr ⟨_, rfl⟩) h0 ho (nle rfl) rfl (fun h_8 e9 => ?_)
  have f10 := gu_a e9
  exact g_vret F dJ2_init_11 (⟨rfl, by rw [e9]⟩)
theorem lsO_0 {K : gK} {N : Nat → Prop} {h : AH} {a : Nat} {l : Nat → Nat} (h1 : h a = some (.inr (4, [.int 0, .ref (gAd K 203), .int 0]))) (h2 : N a) : lsO K N h a (gAd K 203) 0 l 0 := ⟨h1, h2, by omega, .inl ⟨rfl, rfl⟩⟩
set_option maxHeartbeats 4000000 in
set_option maxRecDepth 100000 in
theorem ct_J8_init {K : gK} {h : AH} {q a d n : Nat} {md : Int32} (hq : h q = some (.inr (8, [.int 0, .int 0, .int 0, .null]))) (hqo : gOld K q = none) (hl : h a = some (.inr (4, [.int md, .ref d, .int (nI n)]))) : gCt K yJ8_init w_J8_init 1 12 0 0 h [.ref q, .ref a] (pV (gu h q (.inr (8, [.int 0, .int (-1), .int md, .ref a])))) := by
  refine g_meth pf_J8_init (nle rfl) (fun p e s m args below meth c F hnm htb => ?_)
  have F : gFix K p s m args meth c cJ8_init 2 RJ8 none := F
  refine g_eql (lv' := [(0, .ref q), (1, .ref a)]) rfl ?_
  refine g_aload_n F dJ8_init_0 0 rfl rfl ?_
  refine g_aload_n F dJ8_init_1 1 rfl rfl ?_
  refine gp_J8_1_J8 (fs' := [.int 0, .int 0, .int 0, .ref a]) F hnm dJ8_init_2 (Or.inr ⟨_, rfl⟩) hq hqo (nle rfl) rfl (fun h_1 e2 => ?_)
  have f3 := gu_t e2 hl (gne hl hq (by decide))
  have f4 := gu_a e2
  refine g_aload_n F dJ8_init_5 0 rfl rfl ?_
  refine g_objInit F q351 q124 q125 dJ8_init_6 (nle rfl) (nle rfl) ?_
  refine g_aload_n F dJ8_init_9 0 rfl rfl ?_
  refine g_iconst (v := (-1)) F dJ8_init_10 rfl ?_
  refine gp_J8_13_J8 (fs' := [.int 0, .int (-1), .int 0, .ref a]) F dJ8_init_11 f4 hqo (nle rfl) rfl (fun h_5 e6 => ?_)
  have f7 := gu_t e6 f3 (gne f3 f4 (by decide))
  have f8 := gu_a e6
  refine g_aload_n F dJ8_init_14 0 rfl rfl ?_
  refine g_aload_n F dJ8_init_15 0 rfl rfl ?_
  refine gf_J8_1_J8 (v := .ref a) F dJ8_init_16 f8 rfl ?_
  refine gf_J8_17_J2 (v := .int md) F dJ8_init_19 f7 rfl ?_
  refine gp_J8_22_J8 (fs' := [.int 0, .int (-1), .int md, .ref a]) F dJ8_init_22 f8 hqo (nle rfl) rfl (fun h_9 e10 => ?_)
  have f11 := gu_t e10 f7 (gne f7 f8 (by decide))
  have f12 := gu_a e10
  exact g_vret F dJ8_init_25 (⟨rfl, by rw [e10, e6, e2, gu_gu, gu_gu]⟩)
set_option maxHeartbeats 4000000 in
set_option maxRecDepth 100000 in
theorem ct_J2_iterator {K : gK} {h : AH} {a d n : Nat} {md : Int32} (hl : h a = some (.inr (4, [.int md, .ref d, .int (nI n)]))) : gCt K yJ2_iterator w_J2_iterator 2 33 1 4 h [.ref a] (pO (nwO K h (.inr (8, [.int 0, .int (-1), .int md, .ref a])))) := by
  refine g_meth pf_J2_iterator (nle rfl) (fun p e s m args below meth c F hnm htb => ?_)
  have F : gFix K p s m args meth c cJ2_iterator 1 RJ2 (some (.object "java/util/Iterator")) := F
  refine g_eql (lv' := [(0, .ref a)]) rfl ?_
  refine g_new (fs := [.int 0, .int 0, .int 0, .null]) (b := 0) (bs := 0) F in_J8 tyJ8 tyJ8_ok q346 q347 q81 gc_J8 nf_J8 dJ2_iterator_0 (fun q1 h_2 hn_e3 ho_e3 e3 => ?_)
  have w4 := gE.no gE.rf hn_e3
  have x5 := gE.new1 gE.rf e3 hn_e3
  have f6 := gu_a e3
  refine g_dup F dJ2_iterator_3 rfl ?_
  refine g_aload_n F dJ2_iterator_4 0 rfl rfl ?_
  refine g_callI F dJ2_iterator_5 mi_J8_init rfl q348 q349 (ct_J8_init f6 ho_e3 (x5 _ _ hl)) rfl rfl (nle rfl) (nle rfl) (nle rfl) (g_purv ?_) g_purvX
  refine g_gen (fun h_14 e15 => ?_)
  have x16 := gE.wr1 x5 e15 w4
  have e17 := (by rw [e15, e3, gu_gu] : h_14 = gu h q1 _)
  have f18 := gu_a e15
  exact g_aret F dJ2_iterator_8 (Or.inl ⟨_, rfl⟩) (Or.inr ⟨_, rfl⟩) (⟨_, rfl, _, rfl, hn_e3, ho_e3, by rw [e15, e3, gu_gu]⟩)
set_option maxHeartbeats 4000000 in
set_option maxRecDepth 100000 in
theorem ct_J8_hasNext {K : gK} {h : AH} {q a d k n : Nat} {md lr : Int32} (hq : h q = some (.inr (8, [.int (nI k), .int lr, .int md, .ref a]))) (hl : h a = some (.inr (4, [.int md, .ref d, .int (nI n)]))) (hk : k < 2 ^ 31) (hn : n < 2 ^ 31) : gCt K yJ8_hasNext w_J8_hasNext 0 0 0 0 h [.ref q] (pR (.int (if k = n then 0 else 1)) h) := by
  refine g_meth pf_J8_hasNext (nle rfl) (fun p e s m args below meth c F hnm htb => ?_)
  have F : gFix K p s m args meth c cJ8_hasNext 1 RJ8 (some .boolean) := F
  refine g_eql (lv' := [(0, .ref q)]) rfl ?_
  refine g_aload_n F dJ8_hasNext_0 0 rfl rfl ?_
  refine gf_J8_25_J8 (v := .int (nI k)) F dJ8_hasNext_1 hq rfl ?_
  refine g_aload_n F dJ8_hasNext_4 0 rfl rfl ?_
  refine gf_J8_1_J8 (v := .ref a) F dJ8_hasNext_5 hq rfl ?_
  refine gf_J8_28_J2 (v := .int (nI n)) F dJ8_hasNext_8 hl rfl ?_
  refine g_icmp_eq (tgt := 18) F dJ8_hasNext_11 (by decide) (fun c1 => ?_) (fun c1 => ?_)
  · have d0 : k = n := (nI_eq hk hn).mp c1
    refine g_iconst (v := 0) F dJ8_hasNext_18 rfl ?_
    exact g_zret F dJ8_hasNext_19 (by first | rfl | exact mIn_n | (split <;> rfl) | decide) (⟨by simp [d0], rfl⟩)
  · have d0 : ¬ k = n := fun z => c1 (by rw [z])
    refine g_iconst (v := 1) F dJ8_hasNext_14 rfl ?_
    refine g_goto (tgt := 19) F dJ8_hasNext_15 (by decide) ?_
    exact g_zret F dJ8_hasNext_19 (by first | rfl | exact mIn_n | (split <;> rfl) | decide) (⟨by simp [d0], rfl⟩)
set_option maxHeartbeats 4000000 in
set_option maxRecDepth 100000 in
theorem ct_J8_checkForComodification {K : gK} {h : AH} {q a d n : Nat} {md cu lr : Int32} (hq : h q = some (.inr (8, [.int cu, .int lr, .int md, .ref a]))) (hl : h a = some (.inr (4, [.int md, .ref d, .int (nI n)]))) : gCt K yJ8_checkForComodification w_J8_checkForComodification 0 0 0 0 h [.ref q] (pV h) := by
  refine g_meth pf_J8_checkForComodification (nle rfl) (fun p e s m args below meth c F hnm htb => ?_)
  have F : gFix K p s m args meth c cJ8_checkForComodification 1 RJ8 none := F
  refine g_eql (lv' := [(0, .ref q)]) rfl ?_
  refine g_aload_n F dJ8_checkForComodification_0 0 rfl rfl ?_
  refine gf_J8_1_J8 (v := .ref a) F dJ8_checkForComodification_1 hq rfl ?_
  refine gf_J8_17_J2 (v := .int md) F dJ8_checkForComodification_4 hl rfl ?_
  refine g_aload_n F dJ8_checkForComodification_7 0 rfl rfl ?_
  refine gf_J8_22_J8 (v := .int md) F dJ8_checkForComodification_8 hq rfl ?_
  refine g_icmp_eq (tgt := 22) F dJ8_checkForComodification_11 (by decide) (fun c1 => ?_) (fun c1 => absurd c1 ((fun z => z rfl)))
  exact g_vret F dJ8_checkForComodification_22 (⟨rfl, rfl⟩)
set_option maxHeartbeats 4000000 in
set_option maxRecDepth 100000 in
theorem ct_J8_next {K : gK} {h : AH} {q a d k n cp : Nat} {md lr : Int32} {l : Nat → Nat} (hq : h q = some (.inr (8, [.int (nI k), .int lr, .int md, .ref a]))) (hqo : gOld K q = none) (hl : h a = some (.inr (4, [.int md, .ref d, .int (nI n)]))) (hd : h d = some (.inl (gT K 6, cp, .inr (.inr (.inr (.inr (lsD l n))))))) (hdn : gOld K d = none) (hk : k < n) (hnc : n ≤ cp) (hcp : cp < 2 ^ 31) : gCt K yJ8_next w_J8_next 1 20 0 0 h [.ref q] (pR (.ref (l k)) (gu h q (.inr (8, [.int (nI (k + 1)), .int (nI k), .int md, .ref a])))) := by
  refine g_meth pf_J8_next (nle rfl) (fun p e s m args below meth c F hnm htb => ?_)
  have F : gFix K p s m args meth c cJ8_next 3 RJ8 (some (.object "java/lang/Object")) := F
  refine g_eql (lv' := [(0, .ref q)]) rfl ?_
  refine g_aload_n F dJ8_next_0 0 rfl rfl ?_
  refine g_callV F dJ8_next_1 mi_J8_checkForComodification q502 q503 q504 gc_J8 hq (ct_J8_checkForComodification hq hl) rfl rfl (nle rfl) (nle rfl) (nle rfl) (g_purv ?_) g_purvX
  refine g_aload_n F dJ8_next_4 0 rfl rfl ?_
  refine gf_J8_25_J8 (v := .int (nI k)) F dJ8_next_5 hq rfl ?_
  refine g_istore_n (lv' := [(1, .int (nI k)), (0, .ref q)]) F dJ8_next_8 rfl (by decide) rfl ?_
  refine g_iload_n F dJ8_next_9 0 rfl rfl ?_
  refine g_aload_n F dJ8_next_10 1 rfl rfl ?_
  refine gf_J8_1_J8 (v := .ref a) F dJ8_next_11 hq rfl ?_
  refine gf_J8_28_J2 (v := .int (nI n)) F dJ8_next_14 hl rfl ?_
  refine g_icmp_lt (tgt := 28) F dJ8_next_17 (by decide) (fun c8 => ?_) (fun c8 => absurd c8 ((fun z => z (nI_lt hk (by omega)))))
  refine g_aload_n F dJ8_next_28 1 rfl rfl ?_
  refine gf_J8_1_J8 (v := .ref a) F dJ8_next_29 hq rfl ?_
  refine gf_J8_37_J2 (v := .ref d) F dJ8_next_32 hl rfl ?_
  refine g_astore_n (lv' := [(2, .ref d), (1, .int (nI k)), (0, .ref q)]) F dJ8_next_35 rfl (by decide) rfl ?_
  refine g_iload_n F dJ8_next_36 1 rfl rfl ?_
  refine g_aload_n F dJ8_next_37 0 rfl rfl ?_
  refine g_alen F (by decide) hd dJ8_next_38 ?_
  refine g_icmp_lt (tgt := 50) F dJ8_next_39 (by decide) (fun c9 => ?_) (fun c9 => absurd c9 ((fun z => z (nI_lt (by omega) hcp))))
  refine g_aload_n F dJ8_next_50 2 rfl rfl ?_
  refine g_iload_n F dJ8_next_51 1 rfl rfl ?_
  refine g_iconst (v := 1) F dJ8_next_52 rfl ?_
  refine g_iadd F dJ8_next_53 ?_
  refine g_eqs (st' := [.int (nI (k + 1)), .ref q]) (by rw [nI_1]) ?_
  refine gp_J8_25_J8 (fs' := [.int (nI (k + 1)), .int lr, .int md, .ref a]) F dJ8_next_54 hq hqo (nle rfl) rfl (fun h_10 e11 => ?_)
  have f12 := gu_t e11 hl (gne hl hq (by decide))
  have f13 := gu_t e11 hd (gneB hd hq)
  have f14 := gu_a e11
  refine g_aload_n F dJ8_next_57 0 rfl rfl ?_
  refine g_aload_n F dJ8_next_58 2 rfl rfl ?_
  refine g_iload_n F dJ8_next_59 1 rfl rfl ?_
  refine g_dup_x1 F dJ8_next_60 rfl rfl ?_
  refine gp_J8_13_J8 (fs' := [.int (nI (k + 1)), .int (nI k), .int md, .ref a]) F dJ8_next_61 f14 hqo (nle rfl) rfl (fun h_15 e16 => ?_)
  have f17 := gu_t e16 f12 (gne f12 f14 (by decide))
  have f18 := gu_t e16 f13 (gneB f13 f14)
  have f19 := gu_a e16
  refine g_aaldN (i := k) (v := .ref (l k)) F f18 hdn rfl rfl (Nat.lt_of_lt_of_le hk hnc) hcp (lsD_t hk) dJ8_next_64 ?_
  exact g_aret F dJ8_next_65 (Or.inl ⟨_, rfl⟩) (Or.inr ⟨_, rfl⟩) (⟨rfl, by rw [e16, e11, gu_gu]⟩)
theorem ct_J8_nextL {K : gK} {N : Nat → Prop} {h : AH} {a d n : Nat} {l : Nat → Nat} {md : Int32}  {q k : Nat} {lr : Int32} (hl : lsO K N h a d n l md) (hq : h q = some (.inr (8, [.int (nI k), .int lr, .int md, .ref a]))) (hqo : gOld K q = none) (hk : k < n) : gCt K yJ8_next w_J8_next 1 20 0 0 h [.ref q] (pR (.ref (l k)) (gu h q (.inr (8, [.int (nI (k + 1)), .int (nI k), .int md, .ref a])))) := by
  obtain ⟨q1, q2, q3⟩ := lsO.ar hl hk
  exact ct_J8_next hq hqo hl.1 q3 q1 hk (cpO_le hl.2.2.1) (Nat.lt_of_le_of_lt cpO_15 (by decide))
