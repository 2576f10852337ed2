/-! ===== THE CLASS: things made and read (written by tools/class1.py) ===== -/
set_option maxHeartbeats 4000000 in
set_option maxRecDepth 100000 in
theorem ct_X13_init {K : gK} {h : AH} {a : Nat} {q : Nat} (h0 : h a = some (.inr (13, [.int 0, .null]))) (ho : gOld K a = none) : gCt K yX13_init w_X13_init 1 12 0 0 h [.ref a, .ref q] (pV (gu h a (.inr (13, [.int 0, .ref q])))) := by
  refine g_meth pf_X13_init (nle rfl) (fun p e s m args below meth c F hnm htb => ?_)
  have F : gFix K p s m args meth c cX13_init 2 RX13 none := F
  refine g_eql (lv' := [(0, .ref a), (1, .ref q)]) rfl ?_
  refine g_aload_n F dX13_init_0 0 rfl rfl ?_
  refine g_aload_n F dX13_init_1 1 rfl rfl ?_
  refine gp_X13_1_X13 (fs' := [.int 0, .ref q]) F hnm dX13_init_2 (Or.inr ⟨_, rfl⟩) h0 ho (nle rfl) rfl (fun h_1 e2 => ?_)
  have f3 := gu_a e2
  refine g_aload_n F dX13_init_5 0 rfl rfl ?_
  refine g_objInit F q752 q124 q125 dX13_init_6 (nle rfl) (nle rfl) ?_
  exact g_vret F dX13_init_9 (⟨rfl, by rw [e2]⟩)
set_option maxHeartbeats 4000000 in
set_option maxRecDepth 100000 in
theorem ct_X5_init {K : gK} {h : AH} {a : Nat} {x : Int32} (h0 : h a = some (.inr (9, [.int 0, .int 0, .int 0, .int 0, .int 0, .int 0, .int 0]))) (ho : gOld K a = none) : gCt K yX5_init w_X5_init 1 12 0 0 h [.ref a, .int x] (pV (gu h a (.inr (9, [.int x, .int 0, .int 0, .int 0, .int 0, .int 0, .int 0])))) := by
  refine g_meth pf_X5_init (nle rfl) (fun p e s m args below meth c F hnm htb => ?_)
  have F : gFix K p s m args meth c cX5_init 2 RX5 none := F
  refine g_eql (lv' := [(0, .ref a), (1, .int x)]) rfl ?_
  refine g_aload_n F dX5_init_0 0 rfl rfl ?_
  refine g_objInit F q528 q124 q125 dX5_init_1 (nle rfl) (nle rfl) ?_
  refine g_aload_n F dX5_init_4 0 rfl rfl ?_
  refine g_iload_n F dX5_init_5 1 rfl rfl ?_
  refine gp_X5_9_X5 (fs' := [.int x, .int 0, .int 0, .int 0, .int 0, .int 0, .int 0]) F hnm dX5_init_6 h0 ho (nle rfl) rfl (fun h_1 e2 => ?_)
  have f3 := gu_a e2
  exact g_vret F dX5_init_9 (⟨rfl, by rw [e2]⟩)
set_option maxHeartbeats 4000000 in
set_option maxRecDepth 100000 in
theorem ct_X6_init {K : gK} {h : AH} {a : Nat} {x y : Int32} (h0 : h a = some (.inr (10, [.int 0, .int 0, .int 0]))) (ho : gOld K a = none) : gCt K yX6_init w_X6_init 1 12 0 0 h [.ref a, .int x, .int y] (pV (gu h a (.inr (10, [.int x, .int y, .int (-1)])))) := by
  refine g_meth pf_X6_init (nle rfl) (fun p e s m args below meth c F hnm htb => ?_)
  have F : gFix K p s m args meth c cX6_init 3 RX6 none := F
  refine g_eql (lv' := [(0, .ref a), (1, .int x), (2, .int y)]) rfl ?_
  refine g_aload_n F dX6_init_0 0 rfl rfl ?_
  refine g_objInit F q596 q124 q125 dX6_init_1 (nle rfl) (nle rfl) ?_
  refine g_aload_n F dX6_init_4 0 rfl rfl ?_
  refine g_iconst (v := (-1)) F dX6_init_5 rfl ?_
  refine gp_X6_9_X6 (fs' := [.int 0, .int 0, .int (-1)]) F dX6_init_6 h0 ho (nle rfl) rfl (fun h_1 e2 => ?_)
  have f3 := gu_a e2
  refine g_aload_n F dX6_init_9 0 rfl rfl ?_
  refine g_iload_n F dX6_init_10 1 rfl rfl ?_
  refine gp_X6_15_X6 (fs' := [.int x, .int 0, .int (-1)]) F hnm dX6_init_11 f3 ho (nle rfl) rfl (fun h_4 e5 => ?_)
  have f6 := gu_a e5
  refine g_aload_n F dX6_init_14 0 rfl rfl ?_
  refine g_iload_n F dX6_init_15 2 rfl rfl ?_
  refine gp_X6_18_X6 (fs' := [.int x, .int y, .int (-1)]) F hnm dX6_init_16 f6 ho (nle rfl) rfl (fun h_7 e8 => ?_)
  have f9 := gu_a e8
  exact g_vret F dX6_init_19 (⟨rfl, by rw [e8, e5, e2, gu_gu, gu_gu]⟩)
set_option maxHeartbeats 4000000 in
set_option maxRecDepth 100000 in
theorem ct_X7_init {K : gK} {h : AH} {a : Nat} {x y z : Int32} (h0 : h a = some (.inr (11, [.int 0, .int 0, .int 0]))) (ho : gOld K a = none) : gCt K yX7_init w_X7_init 1 12 0 0 h [.ref a, .int x, .int y, .int z] (pV (gu h a (.inr (11, [.int x, .int y, .int z])))) := by
  refine g_meth pf_X7_init (nle rfl) (fun p e s m args below meth c F hnm htb => ?_)
  have F : gFix K p s m args meth c cX7_init 4 RX7 none := F
  refine g_eql (lv' := [(0, .ref a), (1, .int x), (2, .int y), (3, .int z)]) rfl ?_
  refine g_aload_n F dX7_init_0 0 rfl rfl ?_
  refine g_objInit F q630 q124 q125 dX7_init_1 (nle rfl) (nle rfl) ?_
  refine g_aload_n F dX7_init_4 0 rfl rfl ?_
  refine g_iload_n F dX7_init_5 1 rfl rfl ?_
  refine gp_X7_7_X7 (fs' := [.int x, .int 0, .int 0]) F hnm dX7_init_6 h0 ho (nle rfl) rfl (fun h_1 e2 => ?_)
  have f3 := gu_a e2
  refine g_aload_n F dX7_init_9 0 rfl rfl ?_
  refine g_iload_n F dX7_init_10 2 rfl rfl ?_
  refine gp_X7_13_X7 (fs' := [.int x, .int y, .int 0]) F hnm dX7_init_11 f3 ho (nle rfl) rfl (fun h_4 e5 => ?_)
  have f6 := gu_a e5
  refine g_aload_n F dX7_init_14 0 rfl rfl ?_
  refine g_iload_n F dX7_init_15 3 rfl rfl ?_
  refine gp_X7_16_X7 (fs' := [.int x, .int y, .int z]) F dX7_init_16 f6 ho (nle rfl) rfl (fun h_7 e8 => ?_)
  have f9 := gu_a e8
  exact g_vret F dX7_init_19 (⟨rfl, by rw [e8, e5, e2, gu_gu, gu_gu]⟩)
set_option maxHeartbeats 4000000 in
set_option maxRecDepth 100000 in
theorem ct_X17_init {K : gK} {h : AH} {a : Nat} {x y z u : Int32} (h0 : h a = some (.inr (12, [.int 0, .int 0, .int 0, .int 0]))) (ho : gOld K a = none) : gCt K yX17_init w_X17_init 1 12 0 0 h [.ref a, .int x, .int y, .int z, .int u] (pV (gu h a (.inr (12, [.int x, .int y, .int z, .int u])))) := by
  refine g_meth pf_X17_init (nle rfl) (fun p e s m args below meth c F hnm htb => ?_)
  have F : gFix K p s m args meth c cX17_init 5 RX17 none := F
  refine g_eql (lv' := [(0, .ref a), (1, .int x), (2, .int y), (3, .int z), (4, .int u)]) rfl ?_
  refine g_aload_n F dX17_init_0 0 rfl rfl ?_
  refine g_objInit F q1900 q124 q125 dX17_init_1 (nle rfl) (nle rfl) ?_
  refine g_aload_n F dX17_init_4 0 rfl rfl ?_
  refine g_iload_n F dX17_init_5 1 rfl rfl ?_
  refine gp_X17_7_X17 (fs' := [.int x, .int 0, .int 0, .int 0]) F hnm dX17_init_6 h0 ho (nle rfl) rfl (fun h_1 e2 => ?_)
  have f3 := gu_a e2
  refine g_aload_n F dX17_init_9 0 rfl rfl ?_
  refine g_iload_n F dX17_init_10 2 rfl rfl ?_
  refine gp_X17_13_X17 (fs' := [.int x, .int y, .int 0, .int 0]) F hnm dX17_init_11 f3 ho (nle rfl) rfl (fun h_4 e5 => ?_)
  have f6 := gu_a e5
  refine g_aload_n F dX17_init_14 0 rfl rfl ?_
  refine g_iload_n F dX17_init_15 3 rfl rfl ?_
  refine gp_X17_16_X17 (fs' := [.int x, .int y, .int z, .int 0]) F hnm dX17_init_16 f6 ho (nle rfl) rfl (fun h_7 e8 => ?_)
  have f9 := gu_a e8
  refine g_aload_n F dX17_init_19 0 rfl rfl ?_
  refine g_iload F dX17_init_20 4 rfl ?_
  refine gp_X17_19_X17 (fs' := [.int x, .int y, .int z, .int u]) F hnm dX17_init_22 f9 ho (nle rfl) rfl (fun h_10 e11 => ?_)
  have f12 := gu_a e11
  exact g_vret F dX17_init_25 (⟨rfl, by rw [e11, e8, e5, e2, gu_gu, gu_gu, gu_gu]⟩)
set_option maxHeartbeats 4000000 in
set_option maxRecDepth 100000 in
theorem ct_X8_init {K : gK} {h : AH} {a : Nat} {q : Nat} {x y : Int32} (h0 : h a = some (.inr (18, [.null, .int 0, .int 0]))) (ho : gOld K a = none) : gCt K yX8_init w_X8_init 1 12 0 0 h [.ref a, .ref q, .int x, .int y] (pV (gu h a (.inr (18, [.ref q, .int x, .int y])))) := by
  refine g_meth pf_X8_init (nle rfl) (fun p e s m args below meth c F hnm htb => ?_)
  have F : gFix K p s m args meth c cX8_init 4 RX8 none := F
  refine g_eql (lv' := [(0, .ref a), (1, .ref q), (2, .int x), (3, .int y)]) rfl ?_
  refine g_aload_n F dX8_init_0 0 rfl rfl ?_
  refine g_objInit F q1349 q124 q125 dX8_init_1 (nle rfl) (nle rfl) ?_
  refine g_aload_n F dX8_init_4 0 rfl rfl ?_
  refine g_aload_n F dX8_init_5 1 rfl rfl ?_
  refine gp_X8_7_X8 (fs' := [.ref q, .int 0, .int 0]) F hnm dX8_init_6 (Or.inr ⟨_, rfl⟩) h0 ho (nle rfl) rfl (fun h_1 e2 => ?_)
  have f3 := gu_a e2
  refine g_aload_n F dX8_init_9 0 rfl rfl ?_
  refine g_iload_n F dX8_init_10 2 rfl rfl ?_
  refine gp_X8_13_X8 (fs' := [.ref q, .int x, .int 0]) F hnm dX8_init_11 f3 ho (nle rfl) rfl (fun h_4 e5 => ?_)
  have f6 := gu_a e5
  refine g_aload_n F dX8_init_14 0 rfl rfl ?_
  refine g_iload_n F dX8_init_15 3 rfl rfl ?_
  refine gp_X8_17_X8 (fs' := [.ref q, .int x, .int y]) F hnm dX8_init_16 f6 ho (nle rfl) rfl (fun h_7 e8 => ?_)
  have f9 := gu_a e8
  exact g_vret F dX8_init_19 (⟨rfl, by rw [e8, e5, e2, gu_gu, gu_gu]⟩)
set_option maxHeartbeats 4000000 in
set_option maxRecDepth 100000 in
theorem ct_X18_init {K : gK} {h : AH} {a : Nat} {x : Int32} (h0 : h a = some (.inr (17, [.int 0]))) (ho : gOld K a = none) : gCt K yX18_init w_X18_init 1 12 0 0 h [.ref a, .int x] (pV (gu h a (.inr (17, [.int x])))) := by
  refine g_meth pf_X18_init (nle rfl) (fun p e s m args below meth c F hnm htb => ?_)
  have F : gFix K p s m args meth c cX18_init 2 RX18 none := F
  refine g_eql (lv' := [(0, .ref a), (1, .int x)]) rfl ?_
  refine g_aload_n F dX18_init_0 0 rfl rfl ?_
  refine g_objInit F q1320 q124 q125 dX18_init_1 (nle rfl) (nle rfl) ?_
  refine g_aload_n F dX18_init_4 0 rfl rfl ?_
  refine g_iload_n F dX18_init_5 1 rfl rfl ?_
  refine gp_X18_7_X18 (fs' := [.int x]) F hnm dX18_init_6 h0 ho (nle rfl) rfl (fun h_1 e2 => ?_)
  have f3 := gu_a e2
  exact g_vret F dX18_init_9 (⟨rfl, by rw [e2]⟩)
set_option maxHeartbeats 4000000 in
set_option maxRecDepth 100000 in
theorem ct_X16_init {K : gK} {h : AH} {a : Nat} {q : Nat} (h0 : h a = some (.inr (15, [.null]))) (ho : gOld K a = none) : gCt K yX16_init w_X16_init 1 12 0 0 h [.ref a, .ref q] (pV (gu h a (.inr (15, [.ref q])))) := by
  refine g_meth pf_X16_init (nle rfl) (fun p e s m args below meth c F hnm htb => ?_)
  have F : gFix K p s m args meth c cX16_init 2 RX16 none := F
  refine g_eql (lv' := [(0, .ref a), (1, .ref q)]) rfl ?_
  refine g_aload_n F dX16_init_0 0 rfl rfl ?_
  refine g_objInit F q1792 q124 q125 dX16_init_1 (nle rfl) (nle rfl) ?_
  refine g_aload_n F dX16_init_4 0 rfl rfl ?_
  refine g_aload_n F dX16_init_5 1 rfl rfl ?_
  refine gp_X16_7_X16 (fs' := [.ref q]) F hnm dX16_init_6 (Or.inr ⟨_, rfl⟩) h0 ho (nle rfl) rfl (fun h_1 e2 => ?_)
  have f3 := gu_a e2
  exact g_vret F dX16_init_9 (⟨rfl, by rw [e2]⟩)
set_option maxHeartbeats 4000000 in
set_option maxRecDepth 100000 in
theorem ct_X11_init {K : gK} {h : AH} {a : Nat} {q : Nat} {x : Int32} (h0 : h a = some (.inr (16, [.int 0, .null]))) (ho : gOld K a = none) : gCt K yX11_init w_X11_init 1 12 0 0 h [.ref a, .ref q, .int x] (pV (gu h a (.inr (16, [.int x, .ref q])))) := by
  refine g_meth pf_X11_init (nle rfl) (fun p e s m args below meth c F hnm htb => ?_)
  have F : gFix K p s m args meth c cX11_init 3 RX11 none := F
  refine g_eql (lv' := [(0, .ref a), (1, .ref q), (2, .int x)]) rfl ?_
  refine g_aload_n F dX11_init_0 0 rfl rfl ?_
  refine g_aload_n F dX11_init_1 1 rfl rfl ?_
  refine gp_X11_1_X11 (fs' := [.int 0, .ref q]) F hnm dX11_init_2 (Or.inr ⟨_, rfl⟩) h0 ho (nle rfl) rfl (fun h_1 e2 => ?_)
  have f3 := gu_a e2
  refine g_aload_n F dX11_init_5 0 rfl rfl ?_
  refine g_iload_n F dX11_init_6 2 rfl rfl ?_
  refine gp_X11_7_X11 (fs' := [.int x, .ref q]) F hnm dX11_init_7 f3 ho (nle rfl) rfl (fun h_4 e5 => ?_)
  have f6 := gu_a e5
  refine g_aload_n F dX11_init_10 0 rfl rfl ?_
  refine g_objInit F q1211 q124 q125 dX11_init_11 (nle rfl) (nle rfl) ?_
  exact g_vret F dX11_init_14 (⟨rfl, by rw [e5, e2, gu_gu]⟩)
set_option maxHeartbeats 4000000 in
set_option maxRecDepth 100000 in
theorem ct_X19_init {K : gK} {h : AH} {a : Nat} {q : Nat} (h0 : h a = some (.inr (19, [.null, .int 0]))) (ho : gOld K a = none) : gCt K yX19_init w_X19_init 1 12 0 0 h [.ref a, .ref q] (pV (gu h a (.inr (19, [.ref q, .int 0])))) := by
  refine g_meth pf_X19_init (nle rfl) (fun p e s m args below meth c F hnm htb => ?_)
  have F : gFix K p s m args meth c cX19_init 2 RX19 none := F
  refine g_eql (lv' := [(0, .ref a), (1, .ref q)]) rfl ?_
  refine g_aload_n F dX19_init_0 0 rfl rfl ?_
  refine g_objInit F q2079 q124 q125 dX19_init_1 (nle rfl) (nle rfl) ?_
  refine g_aload_n F dX19_init_4 0 rfl rfl ?_
  refine g_aload_n F dX19_init_5 1 rfl rfl ?_
  refine gp_X19_7_X19 (fs' := [.ref q, .int 0]) F hnm dX19_init_6 (Or.inr ⟨_, rfl⟩) h0 ho (nle rfl) rfl (fun h_1 e2 => ?_)
  have f3 := gu_a e2
  exact g_vret F dX19_init_9 (⟨rfl, by rw [e2]⟩)
set_option maxHeartbeats 4000000 in
set_option maxRecDepth 100000 in
theorem ct_X5_number {K : gK} {h : AH} {a : Nat} {no ht ld cu wt ye fl : Int32} (h0 : h a = some (.inr (9, [.int no, .int ht, .int ld, .int cu, .int wt, .int ye, .int fl]))) : gCt K yX5_number w_X5_number 0 0 0 0 h [.ref a] (pR (.int (no)) h) := by
  refine g_meth pf_X5_number (nle rfl) (fun p e s m args below meth c F hnm htb => ?_)
  have F : gFix K p s m args meth c cX5_number 1 RX5 (some .int) := F
  refine g_eql (lv' := [(0, .ref a)]) rfl ?_
  refine g_aload_n F dX5_number_0 0 rfl rfl ?_
  refine gf_X5_9_X5 (v := .int no) F dX5_number_1 h0 rfl ?_
  exact g_iret F dX5_number_4 (⟨rfl, rfl⟩)
set_option maxHeartbeats 4000000 in
set_option maxRecDepth 100000 in
theorem ct_X5_outBy {K : gK} {h : AH} {a : Nat} {no ht ld cu wt ye fl : Int32} (h0 : h a = some (.inr (9, [.int no, .int ht, .int ld, .int cu, .int wt, .int ye, .int fl]))) {x y : Int32} : gCt K yX5_outBy w_X5_outBy 1 20 0 0 h [.ref a, .int x, .int y] (pR (.int (mAbs (ld + x - 10 * y))) h) := by
  refine g_meth pf_X5_outBy (nle rfl) (fun p e s m args below meth c F hnm htb => ?_)
  have F : gFix K p s m args meth c cX5_outBy 3 RX5 (some .int) := F
  refine g_eql (lv' := [(0, .ref a), (1, .int x), (2, .int y)]) rfl ?_
  refine g_aload_n F dX5_outBy_0 0 rfl rfl ?_
  refine gf_X5_21_X5 (v := .int ld) F dX5_outBy_1 h0 rfl ?_
  refine g_iload_n F dX5_outBy_4 1 rfl rfl ?_
  refine g_iadd F dX5_outBy_5 ?_
  refine g_bipush (v := 10) F dX5_outBy_6 rfl ?_
  refine g_iload_n F dX5_outBy_8 2 rfl rfl ?_
  refine g_imul F dX5_outBy_9 ?_
  refine g_isub F dX5_outBy_10 ?_
  refine g_callS F dX5_outBy_11 mi_J16_abs q1129 q1130 ct_J16_abs rfl rfl (nle rfl) (nle rfl) (nle rfl) (g_pur ?_) g_purX
  exact g_iret F dX5_outBy_14 (⟨rfl, rfl⟩)
set_option maxHeartbeats 4000000 in
set_option maxRecDepth 100000 in
theorem ct_X5_outBy_2 {K : gK} {h : AH} {a : Nat} {no ht ld cu wt ye fl : Int32} (h0 : h a = some (.inr (9, [.int no, .int ht, .int ld, .int cu, .int wt, .int ye, .int fl]))) : gCt K yX5_outBy_2 w_X5_outBy_2 2 42 0 0 h [.ref a] (pR (.int (mAbs (ld + 0 - 10 * wt))) h) := by
  refine g_meth pf_X5_outBy_2 (nle rfl) (fun p e s m args below meth c F hnm htb => ?_)
  have F : gFix K p s m args meth c cX5_outBy_2 1 RX5 (some .int) := F
  refine g_eql (lv' := [(0, .ref a)]) rfl ?_
  refine g_aload_n F dX5_outBy_2_0 0 rfl rfl ?_
  refine g_iconst (v := 0) F dX5_outBy_2_1 rfl ?_
  refine g_aload_n F dX5_outBy_2_2 0 rfl rfl ?_
  refine gf_X5_27_X5 (v := .int wt) F dX5_outBy_2_3 h0 rfl ?_
  refine g_callV F dX5_outBy_2_6 mi_X5_outBy q1188 q1126 q1127 gc_X5 h0 (ct_X5_outBy h0) rfl rfl (nle rfl) (nle rfl) (nle rfl) (g_pur ?_) g_purX
  exact g_iret F dX5_outBy_2_9 (⟨rfl, rfl⟩)
set_option maxHeartbeats 4000000 in
set_option maxRecDepth 100000 in
theorem ct_X5_onRope {K : gK} {h : AH} {a : Nat} {no ht ld cu wt ye fl : Int32} (h0 : h a = some (.inr (9, [.int no, .int ht, .int ld, .int cu, .int wt, .int ye, .int fl]))) : gCt K yX5_onRope w_X5_onRope 0 0 0 0 h [.ref a] (pR (.int (ld + 10 * wt)) h) := by
  refine g_meth pf_X5_onRope (nle rfl) (fun p e s m args below meth c F hnm htb => ?_)
  have F : gFix K p s m args meth c cX5_onRope 1 RX5 (some .int) := F
  refine g_eql (lv' := [(0, .ref a)]) rfl ?_
  refine g_aload_n F dX5_onRope_0 0 rfl rfl ?_
  refine gf_X5_21_X5 (v := .int ld) F dX5_onRope_1 h0 rfl ?_
  refine g_bipush (v := 10) F dX5_onRope_4 rfl ?_
  refine g_aload_n F dX5_onRope_6 0 rfl rfl ?_
  refine gf_X5_27_X5 (v := .int wt) F dX5_onRope_7 h0 rfl ?_
  refine g_imul F dX5_onRope_10 ?_
  refine g_iadd F dX5_onRope_11 ?_
  exact g_iret F dX5_onRope_12 (⟨rfl, rfl⟩)
set_option maxHeartbeats 4000000 in
set_option maxRecDepth 100000 in
theorem ct_X5_bears {K : gK} {h : AH} {a : Nat} {no ht ld cu wt ye fl : Int32} (h0 : h a = some (.inr (9, [.int no, .int ht, .int ld, .int cu, .int wt, .int ye, .int fl]))) : gCt K yX5_bears w_X5_bears 1 21 0 0 h [.ref a] (pR (.int (mMax 0 (300 - 25 * ye))) h) := by
  refine g_meth pf_X5_bears (nle rfl) (fun p e s m args below meth c F hnm htb => ?_)
  have F : gFix K p s m args meth c cX5_bears 1 RX5 (some .int) := F
  refine g_eql (lv' := [(0, .ref a)]) rfl ?_
  refine g_iconst (v := 0) F dX5_bears_0 rfl ?_
  refine g_sipush (v := 300) F dX5_bears_1 rfl ?_
  refine g_bipush (v := 25) F dX5_bears_4 rfl ?_
  refine g_aload_n F dX5_bears_6 0 rfl rfl ?_
  refine gf_X5_30_X5 (v := .int ye) F dX5_bears_7 h0 rfl ?_
  refine g_imul F dX5_bears_10 ?_
  refine g_isub F dX5_bears_11 ?_
  refine g_callS F dX5_bears_12 mi_J16_max q1197 q664 ct_J16_max rfl rfl (nle rfl) (nle rfl) (nle rfl) (g_pur ?_) g_purX
  exact g_iret F dX5_bears_15 (⟨rfl, rfl⟩)
set_option maxHeartbeats 4000000 in
set_option maxRecDepth 100000 in
theorem ct_X5_floor {K : gK} {h : AH} {a : Nat} {no ht ld cu wt ye fl : Int32} (h0 : h a = some (.inr (9, [.int no, .int ht, .int ld, .int cu, .int wt, .int ye, .int fl]))) : gCt K yX5_floor w_X5_floor 0 0 0 0 h [.ref a] (pR (.int (mRem3 no)) h) := by
  refine g_meth pf_X5_floor (nle rfl) (fun p e s m args below meth c F hnm htb => ?_)
  have F : gFix K p s m args meth c cX5_floor 1 RX5 (some .int) := F
  refine g_eql (lv' := [(0, .ref a)]) rfl ?_
  refine g_aload_n F dX5_floor_0 0 rfl rfl ?_
  refine gf_X5_9_X5 (v := .int no) F dX5_floor_1 h0 rfl ?_
  refine g_iconst (v := 3) F dX5_floor_4 rfl ?_
  refine g_irem F dX5_floor_5 (by decide) ?_
  exact g_iret F dX5_floor_6 (⟨rfl, rfl⟩)
set_option maxHeartbeats 4000000 in
set_option maxRecDepth 100000 in
theorem ct_X6_number {K : gK} {h : AH} {a : Nat} {znumber zweight zbar : Int32} (h0 : h a = some (.inr (10, [.int znumber, .int zweight, .int zbar]))) : gCt K yX6_number w_X6_number 0 0 0 0 h [.ref a] (pR (.int (znumber)) h) := by
  refine g_meth pf_X6_number (nle rfl) (fun p e s m args below meth c F hnm htb => ?_)
  have F : gFix K p s m args meth c cX6_number 1 RX6 (some .int) := F
  refine g_eql (lv' := [(0, .ref a)]) rfl ?_
  refine g_aload_n F dX6_number_0 0 rfl rfl ?_
  refine gf_X6_15_X6 (v := .int znumber) F dX6_number_1 h0 rfl ?_
  exact g_iret F dX6_number_4 (⟨rfl, rfl⟩)
set_option maxHeartbeats 4000000 in
set_option maxRecDepth 100000 in
theorem ct_X7_number {K : gK} {h : AH} {a : Nat} {znumber zstrength zfloor : Int32} (h0 : h a = some (.inr (11, [.int znumber, .int zstrength, .int zfloor]))) : gCt K yX7_number w_X7_number 0 0 0 0 h [.ref a] (pR (.int (znumber)) h) := by
  refine g_meth pf_X7_number (nle rfl) (fun p e s m args below meth c F hnm htb => ?_)
  have F : gFix K p s m args meth c cX7_number 1 RX7 (some .int) := F
  refine g_eql (lv' := [(0, .ref a)]) rfl ?_
  refine g_aload_n F dX7_number_0 0 rfl rfl ?_
  refine gf_X7_7_X7 (v := .int znumber) F dX7_number_1 h0 rfl ?_
  exact g_iret F dX7_number_4 (⟨rfl, rfl⟩)
set_option maxHeartbeats 4000000 in
set_option maxRecDepth 100000 in
theorem ct_X17_number {K : gK} {h : AH} {a : Nat} {zlight zbar zheight zhush : Int32} (h0 : h a = some (.inr (12, [.int zlight, .int zbar, .int zheight, .int zhush]))) : gCt K yX17_number w_X17_number 0 0 0 0 h [.ref a] (pR (.int (zlight)) h) := by
  refine g_meth pf_X17_number (nle rfl) (fun p e s m args below meth c F hnm htb => ?_)
  have F : gFix K p s m args meth c cX17_number 1 RX17 (some .int) := F
  refine g_eql (lv' := [(0, .ref a)]) rfl ?_
  refine g_aload_n F dX17_number_0 0 rfl rfl ?_
  refine gf_X17_7_X17 (v := .int zlight) F dX17_number_1 h0 rfl ?_
  exact g_iret F dX17_number_4 (⟨rfl, rfl⟩)
set_option maxHeartbeats 4000000 in
set_option maxRecDepth 100000 in
theorem ct_J0_init {K : gK} {h : AH} {a : Nat} : gCt K yJ0_init w_J0_init 1 12 0 0 h [.ref a] (pV h) := by
  refine g_meth pf_J0_init (nle rfl) (fun p e s m args below meth c F hnm htb => ?_)
  have F : gFix K p s m args meth c cJ0_init 1 RJ0 none := F
  refine g_eql (lv' := [(0, .ref a)]) rfl ?_
  refine g_aload_n F dJ0_init_0 0 rfl rfl ?_
  refine g_objInit F q149 q124 q125 dJ0_init_1 (nle rfl) (nle rfl) ?_
  exact g_vret F dJ0_init_4 (⟨rfl, rfl⟩)
set_option maxHeartbeats 4000000 in
set_option maxRecDepth 100000 in
theorem ct_J2_size {K : gK} {h : AH} {a d n : Nat} {md : Int32} (hl : h a = some (.inr (4, [.int md, .ref d, .int (nI n)]))) : gCt K yJ2_size w_J2_size 0 0 0 0 h [.ref a] (pR (.int (nI n)) h) := by
  refine g_meth pf_J2_size (nle rfl) (fun p e s m args below meth c F hnm htb => ?_)
  have F : gFix K p s m args meth c cJ2_size 1 RJ2 (some .int) := F
  refine g_eql (lv' := [(0, .ref a)]) rfl ?_
  refine g_aload_n F dJ2_size_0 0 rfl rfl ?_
  refine gf_J2_48_J2 (v := .int (nI n)) F dJ2_size_1 hl rfl ?_
  exact g_iret F dJ2_size_4 (⟨rfl, rfl⟩)
set_option maxHeartbeats 4000000 in
set_option maxRecDepth 100000 in
theorem ct_J2_isEmpty {K : gK} {h : AH} {a d n : Nat} {md : Int32} (hl : h a = some (.inr (4, [.int md, .ref d, .int (nI n)]))) : gCt K yJ2_isEmpty w_J2_isEmpty 0 0 0 0 h [.ref a] (pR (.int (if nI n = 0 then 1 else 0)) h) := by
  refine g_meth pf_J2_isEmpty (nle rfl) (fun p e s m args below meth c F hnm htb => ?_)
  have F : gFix K p s m args meth c cJ2_isEmpty 1 RJ2 (some .boolean) := F
  refine g_eql (lv' := [(0, .ref a)]) rfl ?_
  refine g_aload_n F dJ2_isEmpty_0 0 rfl rfl ?_
  refine gf_J2_48_J2 (v := .int (nI n)) F dJ2_isEmpty_1 hl rfl ?_
  refine g_if_ne (tgt := 11) F dJ2_isEmpty_4 (by decide) (fun c1 => ?_) (fun c1 => ?_)
  · have d0 := c1
    refine g_iconst (v := 0) F dJ2_isEmpty_11 rfl ?_
    exact g_zret F dJ2_isEmpty_12 (by first | rfl | exact mIn_n | (split <;> rfl) | decide) (⟨by simp [*], rfl⟩)
  · have d0 := c1
    refine g_iconst (v := 1) F dJ2_isEmpty_7 rfl ?_
    refine g_goto (tgt := 12) F dJ2_isEmpty_8 (by decide) ?_
    exact g_zret F dJ2_isEmpty_12 (by first | rfl | exact mIn_n | (split <;> rfl) | decide) (⟨by simp [*], rfl⟩)
set_option maxHeartbeats 4000000 in
set_option maxRecDepth 100000 in
theorem ct_J2_elementData {K : gK} {h : AH} {a d n cp : Nat} {md : Int32} {l : Nat → Nat} (hl : h a = some (.inr (4, [.int md, .ref d, .int (nI n)]))) (hd : h d = some (.inl (gT K 6, cp, .inr (.inr (.inr (.inr (lsD l n))))))) {x : Int32} {i : Nat} (hx : x = nI i) (hi : i < n) (hnc : n ≤ cp) (hcp : cp < 2 ^ 31) (hdn : gOld K d = none) : gCt K yJ2_elementData w_J2_elementData 0 0 0 0 h [.ref a, .int x] (pR (.ref (l i)) h) := by
  refine g_meth pf_J2_elementData (nle rfl) (fun p e s m args below meth c F hnm htb => ?_)
  have F : gFix K p s m args meth c cJ2_elementData 2 RJ2 (some (.object "java/lang/Object")) := F
  refine g_eql (lv' := [(0, .ref a), (1, .int x)]) rfl ?_
  refine g_aload_n F dJ2_elementData_0 0 rfl rfl ?_
  refine gf_J2_9_J2 (v := .ref d) F dJ2_elementData_1 hl rfl ?_
  refine g_iload_n F dJ2_elementData_4 1 rfl rfl ?_
  refine g_aaldN (i := i) (v := .ref (l i)) F hd hdn hx rfl (Nat.lt_of_lt_of_le hi hnc) hcp (lsD_t hi) dJ2_elementData_5 ?_
  exact g_aret F dJ2_elementData_6 (Or.inl ⟨_, rfl⟩) (Or.inr ⟨_, rfl⟩) (⟨rfl, rfl⟩)
set_option maxHeartbeats 4000000 in
set_option maxRecDepth 100000 in
theorem ct_J2_get {K : gK} {h : AH} {a d n cp : Nat} {md : Int32} {l : Nat → Nat} (hl : h a = some (.inr (4, [.int md, .ref d, .int (nI n)]))) (hd : h d = some (.inl (gT K 6, cp, .inr (.inr (.inr (.inr (lsD l n))))))) {x : Int32} {i : Nat} (hx : x = nI i) (hi : i < n) (hnc : n ≤ cp) (hcp : cp < 2 ^ 31) (hdn : gOld K d = none) : gCt K yJ2_get w_J2_get 2 43 0 0 h [.ref a, .int x] (pR (.ref (l i)) h) := by
  refine g_meth pf_J2_get (nle rfl) (fun p e s m args below meth c F hnm htb => ?_)
  have F : gFix K p s m args meth c cJ2_get 2 RJ2 (some (.object "java/lang/Object")) := F
  refine g_eql (lv' := [(0, .ref a), (1, .int x)]) rfl ?_
  refine g_iload_n F dJ2_get_0 1 rfl rfl ?_
  refine g_aload_n F dJ2_get_1 0 rfl rfl ?_
  refine gf_J2_48_J2 (v := .int (nI n)) F dJ2_get_2 hl rfl ?_
  refine g_callS F dJ2_get_5 mi_J9_checkIndex q405 q406 (ct_J9_checkIndex hx hi (Nat.lt_of_le_of_lt hnc hcp)) rfl rfl (nle rfl) (nle rfl) (nle rfl) (g_pur ?_) g_purX
  refine g_pop F dJ2_get_8 rfl ?_
  refine g_aload_n F dJ2_get_9 0 rfl rfl ?_
  refine g_iload_n F dJ2_get_10 1 rfl rfl ?_
  refine g_callV F dJ2_get_11 mi_J2_elementData q411 q412 q413 gc_J2 hl (ct_J2_elementData hl hd hx hi hnc hcp hdn) rfl rfl (nle rfl) (nle rfl) (nle rfl) (g_pur ?_) g_purX
  exact g_aret F dJ2_get_14 (Or.inl ⟨_, rfl⟩) (Or.inr ⟨_, rfl⟩) (⟨rfl, rfl⟩)
theorem l64_lt {x y : Int32} : x.toInt64 < y.toInt64 ↔ x < y := by
  rw [Int64.lt_iff_toInt_lt, Int32.toInt_toInt64, Int32.toInt_toInt64, Int32.lt_iff_toInt_lt]
set_option maxHeartbeats 4000000 in
set_option maxRecDepth 100000 in
theorem ct_X1_inRange {K : gK} {h : AH} {x lo hi : Int32} : gCt K yX1_inRange w_X1_inRange 0 0 0 0 h [.long x.toInt64, .long lo.toInt64, .long hi.toInt64] (pR (.int (mIn x lo hi)) h) := by
  refine g_meth pf_X1_inRange (nle rfl) (fun p e s m args below meth c F hnm htb => ?_)
  have F : gFix K p s m args meth c cX1_inRange 6 RX1 (some .boolean) := F
  refine g_eql (lv' := [(0, .long x.toInt64), (2, .long lo.toInt64), (4, .long hi.toInt64)]) rfl ?_
  refine g_lload_n F dX1_inRange_0 0 rfl rfl ?_
  refine g_lload_n F dX1_inRange_1 1 rfl rfl ?_
  refine g_lcmp F dX1_inRange_2 ?_
  refine g_if_lt (tgt := 17) F dX1_inRange_3 (by decide) (fun c1 => ?_) (fun c1 => ?_)
  · have d0 : x < lo := l64_lt.mp ((lg_cmp_lt _ _).mp c1)
    refine g_iconst (v := 0) F dX1_inRange_17 rfl ?_
    exact g_zret F dX1_inRange_18 (by first | rfl | exact mIn_n | (split <;> rfl) | decide) (⟨by first | rw [mIn_t d0 d1] | rw [mIn_f1 d0] | rw [mIn_f2 d1], rfl⟩)
  · have d0 : ¬ x < lo := fun z => c1 ((lg_cmp_lt _ _).mpr (l64_lt.mpr z))
    refine g_lload_n F dX1_inRange_6 0 rfl rfl ?_
    refine g_lload F dX1_inRange_7 2 rfl ?_
    refine g_lcmp F dX1_inRange_9 ?_
    refine g_if_gt (tgt := 17) F dX1_inRange_10 (by decide) (fun c2 => ?_) (fun c2 => ?_)
    · have d1 : hi < x := l64_lt.mp ((lg_cmp_gt _ _).mp c2)
      refine g_iconst (v := 0) F dX1_inRange_17 rfl ?_
      exact g_zret F dX1_inRange_18 (by first | rfl | exact mIn_n | (split <;> rfl) | decide) (⟨by first | rw [mIn_t d0 d1] | rw [mIn_f1 d0] | rw [mIn_f2 d1], rfl⟩)
    · have d1 : ¬ hi < x := fun z => c2 ((lg_cmp_gt _ _).mpr (l64_lt.mpr z))
      refine g_iconst (v := 1) F dX1_inRange_13 rfl ?_
      refine g_goto (tgt := 18) F dX1_inRange_14 (by decide) ?_
      exact g_zret F dX1_inRange_18 (by first | rfl | exact mIn_n | (split <;> rfl) | decide) (⟨by first | rw [mIn_t d0 d1] | rw [mIn_f1 d0] | rw [mIn_f2 d1], rfl⟩)
