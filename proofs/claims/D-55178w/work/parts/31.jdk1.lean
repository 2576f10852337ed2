/-! ===== JDK: strings read (written by tools/jdk1.py) ===== -/
theorem nf_X4 : ∀ j, j < 21 → defaultValue (tyX4 j) = vp_V [.null, .null, .null, .null, .int 0, .null, .int 0, .int 0, .int 0, .int 0, .null, .int 0, .null, .null, .int 0, .int 0, .int 0, .int 0, .int 0, .null, .int 0] j := by
  intro j hj
  have hjo : j = 0 ∨ j = 1 ∨ j = 2 ∨ j = 3 ∨ j = 4 ∨ j = 5 ∨ j = 6 ∨ j = 7 ∨ j = 8 ∨ j = 9 ∨ j = 10 ∨ j = 11 ∨ j = 12 ∨ j = 13 ∨ j = 14 ∨ j = 15 ∨ j = 16 ∨ j = 17 ∨ j = 18 ∨ j = 19 ∨ j = 20 := by omega
  rcases hjo with rfl | rfl | rfl | rfl | rfl | rfl | rfl | rfl | rfl | rfl | rfl | rfl | rfl | rfl | rfl | rfl | rfl | rfl | rfl | rfl | rfl <;> rfl
theorem nf_X1 : ∀ j, j < 8 → defaultValue (tyX1 j) = vp_V [.null, .null, .null, .null, .null, .null, .int 0, .null] j := by
  intro j hj
  have hjo : j = 0 ∨ j = 1 ∨ j = 2 ∨ j = 3 ∨ j = 4 ∨ j = 5 ∨ j = 6 ∨ j = 7 := by omega
  rcases hjo with rfl | rfl | rfl | rfl | rfl | rfl | rfl | rfl <;> rfl
theorem nf_X2 : ∀ j, j < 12 → defaultValue (tyX2 j) = vp_V [.null, .null, .null, .null, .null, .int 0, .int 0, .int 0, .int 0, .int 0, .int 0, .int 0] j := by
  intro j hj
  have hjo : j = 0 ∨ j = 1 ∨ j = 2 ∨ j = 3 ∨ j = 4 ∨ j = 5 ∨ j = 6 ∨ j = 7 ∨ j = 8 ∨ j = 9 ∨ j = 10 ∨ j = 11 := by omega
  rcases hjo with rfl | rfl | rfl | rfl | rfl | rfl | rfl | rfl | rfl | rfl | rfl | rfl <;> rfl
theorem nf_X3 : ∀ j, j < 2 → defaultValue (tyX3 j) = vp_V [.null, .int 0] j := by
  intro j hj
  have hjo : j = 0 ∨ j = 1 := by omega
  rcases hjo with rfl | rfl <;> rfl
theorem nf_J2 : ∀ j, j < 3 → defaultValue (tyJ2 j) = vp_V [.int 0, .null, .int 0] j := by
  intro j hj
  have hjo : j = 0 ∨ j = 1 ∨ j = 2 := by omega
  rcases hjo with rfl | rfl | rfl <;> rfl
theorem nf_J3 : ∀ j, j < 3 → defaultValue (tyJ3 j) = vp_V [.null, .int 0, .int 0] j := by
  intro j hj
  have hjo : j = 0 ∨ j = 1 ∨ j = 2 := by omega
  rcases hjo with rfl | rfl | rfl <;> rfl
theorem nf_J5 : ∀ j, j < 4 → defaultValue (tyJ5 j) = vp_V [.null, .int 0, .int 0, .int 0] j := by
  intro j hj
  have hjo : j = 0 ∨ j = 1 ∨ j = 2 ∨ j = 3 := by omega
  rcases hjo with rfl | rfl | rfl | rfl <;> rfl
theorem nf_J6 : ∀ j, j < 4 → defaultValue (tyJ6 j) = vp_V [.null, .int 0, .int 0, .int 0] j := by
  intro j hj
  have hjo : j = 0 ∨ j = 1 ∨ j = 2 ∨ j = 3 := by omega
  rcases hjo with rfl | rfl | rfl | rfl <;> rfl
theorem nf_J8 : ∀ j, j < 4 → defaultValue (tyJ8 j) = vp_V [.int 0, .int 0, .int 0, .null] j := by
  intro j hj
  have hjo : j = 0 ∨ j = 1 ∨ j = 2 ∨ j = 3 := by omega
  rcases hjo with rfl | rfl | rfl | rfl <;> rfl
theorem nf_X5 : ∀ j, j < 7 → defaultValue (tyX5 j) = vp_V [.int 0, .int 0, .int 0, .int 0, .int 0, .int 0, .int 0] j := by
  intro j hj
  have hjo : j = 0 ∨ j = 1 ∨ j = 2 ∨ j = 3 ∨ j = 4 ∨ j = 5 ∨ j = 6 := by omega
  rcases hjo with rfl | rfl | rfl | rfl | rfl | rfl | rfl <;> rfl
theorem nf_X6 : ∀ j, j < 3 → defaultValue (tyX6 j) = vp_V [.int 0, .int 0, .int 0] j := by
  intro j hj
  have hjo : j = 0 ∨ j = 1 ∨ j = 2 := by omega
  rcases hjo with rfl | rfl | rfl <;> rfl
theorem nf_X7 : ∀ j, j < 3 → defaultValue (tyX7 j) = vp_V [.int 0, .int 0, .int 0] j := by
  intro j hj
  have hjo : j = 0 ∨ j = 1 ∨ j = 2 := by omega
  rcases hjo with rfl | rfl | rfl <;> rfl
theorem nf_X17 : ∀ j, j < 4 → defaultValue (tyX17 j) = vp_V [.int 0, .int 0, .int 0, .int 0] j := by
  intro j hj
  have hjo : j = 0 ∨ j = 1 ∨ j = 2 ∨ j = 3 := by omega
  rcases hjo with rfl | rfl | rfl | rfl <;> rfl
theorem nf_X13 : ∀ j, j < 2 → defaultValue (tyX13 j) = vp_V [.int 0, .null] j := by
  intro j hj
  have hjo : j = 0 ∨ j = 1 := by omega
  rcases hjo with rfl | rfl <;> rfl
theorem nf_X16 : ∀ j, j < 1 → defaultValue (tyX16 j) = vp_V [.null] j := by
  intro j hj
  have hjo : j = 0 := by omega
  rcases hjo with rfl <;> rfl
theorem nf_X11 : ∀ j, j < 2 → defaultValue (tyX11 j) = vp_V [.int 0, .null] j := by
  intro j hj
  have hjo : j = 0 ∨ j = 1 := by omega
  rcases hjo with rfl | rfl <;> rfl
theorem nf_X18 : ∀ j, j < 1 → defaultValue (tyX18 j) = vp_V [.int 0] j := by
  intro j hj
  have hjo : j = 0 := by omega
  rcases hjo with rfl <;> rfl
theorem nf_X8 : ∀ j, j < 3 → defaultValue (tyX8 j) = vp_V [.null, .int 0, .int 0] j := by
  intro j hj
  have hjo : j = 0 ∨ j = 1 ∨ j = 2 := by omega
  rcases hjo with rfl | rfl | rfl <;> rfl
theorem nf_X19 : ∀ j, j < 2 → defaultValue (tyX19 j) = vp_V [.null, .int 0] j := by
  intro j hj
  have hjo : j = 0 ∨ j = 1 := by omega
  rcases hjo with rfl | rfl <;> rfl
theorem nf_X10 : ∀ j, j < 8 → defaultValue (tyX10 j) = vp_V [.null, .null, .null, .null, .null, .int 0, .int 0, .int 0] j := by
  intro j hj
  have hjo : j = 0 ∨ j = 1 ∨ j = 2 ∨ j = 3 ∨ j = 4 ∨ j = 5 ∨ j = 6 ∨ j = 7 := by omega
  rcases hjo with rfl | rfl | rfl | rfl | rfl | rfl | rfl | rfl <;> rfl
theorem nf_X20 : ∀ j, j < 7 → defaultValue (tyX20 j) = vp_V [.null, .null, .null, .null, .null, .int 0, .int 0] j := by
  intro j hj
  have hjo : j = 0 ∨ j = 1 ∨ j = 2 ∨ j = 3 ∨ j = 4 ∨ j = 5 ∨ j = 6 := by omega
  rcases hjo with rfl | rfl | rfl | rfl | rfl | rfl | rfl <;> rfl
set_option maxHeartbeats 4000000 in
set_option maxRecDepth 100000 in
theorem ct_J10_checkIndexN {K : gK} {h : AH} {x : Int32} {i n : Nat} (hx : x = nI i) (hi : i < n) (hn : n < 2 ^ 31) : gCt K yJ10_checkIndex w_J10_checkIndex 0 0 0 0 h [.int x, .int (nI n), .null] (pR (.int x) h) := by
  refine g_meth pf_J10_checkIndex (nle rfl) (fun p e s m args below meth c F hnm htb => ?_)
  have F : gFix K p s m args meth c cJ10_checkIndex 3 RJ10 (some .int) := F
  refine g_eql (lv' := [(0, .int x), (1, .int (nI n)), (2, .null)]) rfl ?_
  refine g_iload_n F dJ10_checkIndex_0 0 rfl rfl ?_
  refine g_if_lt (tgt := 9) F dJ10_checkIndex_1 (by decide) (fun c1 => absurd (by rw [hx] at c1; exact c1) (nI_pos (by omega : i < 2 ^ 31))) (fun c1 => ?_)
  refine g_iload_n F dJ10_checkIndex_4 0 rfl rfl ?_
  refine g_iload_n F dJ10_checkIndex_5 1 rfl rfl ?_
  refine g_icmp_lt (tgt := 16) F dJ10_checkIndex_6 (by decide) (fun c2 => ?_) (fun c2 => absurd (by rw [hx]; exact nI_lt hi hn) c2)
  refine g_iload_n F dJ10_checkIndex_16 0 rfl rfl ?_
  exact g_iret F dJ10_checkIndex_17 (⟨rfl, rfl⟩)
set_option maxHeartbeats 4000000 in
set_option maxRecDepth 100000 in
theorem ct_J10_checkIndexR {K : gK} {h : AH} {q : Nat} {x : Int32} {i n : Nat} (hx : x = nI i) (hi : i < n) (hn : n < 2 ^ 31) : gCt K yJ10_checkIndex w_J10_checkIndex 0 0 0 0 h [.int x, .int (nI n), .ref q] (pR (.int x) h) := by
  refine g_meth pf_J10_checkIndex (nle rfl) (fun p e s m args below meth c F hnm htb => ?_)
  have F : gFix K p s m args meth c cJ10_checkIndex 3 RJ10 (some .int) := F
  refine g_eql (lv' := [(0, .int x), (1, .int (nI n)), (2, .ref q)]) rfl ?_
  refine g_iload_n F dJ10_checkIndex_0 0 rfl rfl ?_
  refine g_if_lt (tgt := 9) F dJ10_checkIndex_1 (by decide) (fun c1 => absurd (by rw [hx] at c1; exact c1) (nI_pos (by omega : i < 2 ^ 31))) (fun c1 => ?_)
  refine g_iload_n F dJ10_checkIndex_4 0 rfl rfl ?_
  refine g_iload_n F dJ10_checkIndex_5 1 rfl rfl ?_
  refine g_icmp_lt (tgt := 16) F dJ10_checkIndex_6 (by decide) (fun c2 => ?_) (fun c2 => absurd (by rw [hx]; exact nI_lt hi hn) c2)
  refine g_iload_n F dJ10_checkIndex_16 0 rfl rfl ?_
  exact g_iret F dJ10_checkIndex_17 (⟨rfl, rfl⟩)
set_option maxHeartbeats 4000000 in
set_option maxRecDepth 100000 in
theorem ct_J6_checkIndex {K : gK} {h : AH} {x : Int32} {i n : Nat} (hx : x = nI i) (hi : i < n) (hn : n < 2 ^ 31) : gCt K yJ6_checkIndex w_J6_checkIndex 1 22 0 0 h [.int x, .int (nI n)] (pV h) := by
  refine g_meth pf_J6_checkIndex (nle rfl) (fun p e s m args below meth c F hnm htb => ?_)
  have F : gFix K p s m args meth c cJ6_checkIndex 2 RJ6 none := F
  refine g_eql (lv' := [(0, .int x), (1, .int (nI n))]) rfl ?_
  refine g_iload_n F dJ6_checkIndex_0 0 rfl rfl ?_
  refine g_iload_n F dJ6_checkIndex_1 1 rfl rfl ?_
  refine g_getsq F F.hZ.2.2.2 q873 (fun _ h9 => h9) dJ6_checkIndex_2 (fun r1 => ?_)
  rcases r1 with _ | r1
  · refine g_eqs (st' := [.null, .int (nI n), .int x]) rfl ?_
    refine g_callS F dJ6_checkIndex_5 mi_J10_checkIndex q1302 q409 (ct_J10_checkIndexN hx hi hn) rfl rfl (nle rfl) (nle rfl) (nle rfl) (g_pur ?_) g_purX
    refine g_pop F dJ6_checkIndex_8 rfl ?_
    exact g_vret F dJ6_checkIndex_9 (⟨rfl, rfl⟩)
  · refine g_eqs (st' := [.ref r1, .int (nI n), .int x]) rfl ?_
    refine g_callS F dJ6_checkIndex_5 mi_J10_checkIndex q1302 q409 (ct_J10_checkIndexR hx hi hn) rfl rfl (nle rfl) (nle rfl) (nle rfl) (g_pur ?_) g_purX
    refine g_pop F dJ6_checkIndex_8 rfl ?_
    exact g_vret F dJ6_checkIndex_9 (⟨rfl, rfl⟩)
set_option maxHeartbeats 4000000 in
set_option maxRecDepth 100000 in
theorem ct_J9_checkIndex {K : gK} {h : AH} {x : Int32} {i n : Nat} (hx : x = nI i) (hi : i < n) (hn : n < 2 ^ 31) : gCt K yJ9_checkIndex w_J9_checkIndex 1 22 0 0 h [.int x, .int (nI n)] (pR (.int x) h) := by
  refine g_meth pf_J9_checkIndex (nle rfl) (fun p e s m args below meth c F hnm htb => ?_)
  have F : gFix K p s m args meth c cJ9_checkIndex 2 RJ9 (some .int) := F
  refine g_eql (lv' := [(0, .int x), (1, .int (nI n))]) rfl ?_
  refine g_iload_n F dJ9_checkIndex_0 0 rfl rfl ?_
  refine g_iload_n F dJ9_checkIndex_1 1 rfl rfl ?_
  refine g_null F dJ9_checkIndex_2 ?_
  refine g_callS F dJ9_checkIndex_3 mi_J10_checkIndex q408 q409 (ct_J10_checkIndexN hx hi hn) rfl rfl (nle rfl) (nle rfl) (nle rfl) (g_pur ?_) g_purX
  exact g_iret F dJ9_checkIndex_6 (⟨rfl, rfl⟩)
set_option maxHeartbeats 4000000 in
set_option maxRecDepth 100000 in
theorem ct_J18_charAt {K : gK} {h : AH} {bb : Nat} {f : Nat → Int32} {x : Int32} {i n : Nat} (hx : x = nI i) (hi : i < n) (hn : n < 2 ^ 31) (hb : h bb = some (.inl (gT K 1, n, .inl f))) : gCt K yJ18_charAt w_J18_charAt 2 43 0 0 h [.ref bb, .int x] (pR (.int (sCh (f i))) h) := by
  refine g_meth pf_J18_charAt (nle rfl) (fun p e s m args below meth c F hnm htb => ?_)
  have F : gFix K p s m args meth c cJ18_charAt 2 RJ18 (some .char) := F
  refine g_eql (lv' := [(0, .ref bb), (1, .int x)]) rfl ?_
  refine g_iload_n F dJ18_charAt_0 1 rfl rfl ?_
  refine g_aload_n F dJ18_charAt_1 0 rfl rfl ?_
  refine g_alen F (by decide) hb dJ18_charAt_2 ?_
  refine g_callS F dJ18_charAt_3 mi_J6_checkIndex q1989 q1300 (ct_J6_checkIndex hx hi hn) rfl rfl (nle rfl) (nle rfl) (nle rfl) (g_purv ?_) g_purvX
  refine g_aload_n F dJ18_charAt_6 0 rfl rfl ?_
  refine g_iload_n F dJ18_charAt_7 1 rfl rfl ?_
  refine g_baldN (i := i) F hb hx rfl hi hn dJ18_charAt_8 ?_
  refine g_sipush (v := 255) F dJ18_charAt_9 rfl ?_
  refine g_iand F dJ18_charAt_12 ?_
  refine g_i2c F dJ18_charAt_13 rfl ?_
  exact g_zret F dJ18_charAt_14 sCh_n (⟨rfl, rfl⟩)
set_option maxHeartbeats 4000000 in
set_option maxRecDepth 100000 in
theorem ct_J6_isLatin1 {K : gK} {h : AH} {a bb : Nat} {hv zv : Int32} (hs : h a = some (.inr (7, [.ref bb, .int 0, .int hv, .int zv]))) : gCt K yJ6_isLatin1 w_J6_isLatin1 0 0 0 0 h [.ref a] (pR (.int 1) h) := by
  refine g_meth pf_J6_isLatin1 (nle rfl) (fun p e s m args below meth c F hnm htb => ?_)
  have F : gFix K p s m args meth c cJ6_isLatin1 1 RJ6 (some .boolean) := F
  refine g_eql (lv' := [(0, .ref a)]) rfl ?_
  refine g_gets F (gZs_0 K) q895 (fun _ h9 => h9) dJ6_isLatin1_0 ?_
  refine g_if_eq (tgt := 17) F dJ6_isLatin1_3 (by decide) (fun c1 => absurd c1 (by decide)) (fun c1 => ?_)
  refine g_aload_n F dJ6_isLatin1_6 0 rfl rfl ?_
  refine gf_J6_15_J6 (v := .int 0) F dJ6_isLatin1_7 hs rfl ?_
  refine g_if_ne (tgt := 17) F dJ6_isLatin1_10 (by decide) (fun c2 => absurd c2 (by decide)) (fun c2 => ?_)
  refine g_iconst (v := 1) F dJ6_isLatin1_13 rfl ?_
  refine g_goto (tgt := 18) F dJ6_isLatin1_14 (by decide) ?_
  exact g_zret F dJ6_isLatin1_18 (by first | rfl | exact mIn_n | (split <;> rfl) | decide) (⟨rfl, rfl⟩)
set_option maxHeartbeats 4000000 in
set_option maxRecDepth 100000 in
theorem ct_J6_coder {K : gK} {h : AH} {a bb : Nat} {hv zv : Int32} (hs : h a = some (.inr (7, [.ref bb, .int 0, .int hv, .int zv]))) : gCt K yJ6_coder w_J6_coder 0 0 0 0 h [.ref a] (pR (.int 0) h) := by
  refine g_meth pf_J6_coder (nle rfl) (fun p e s m args below meth c F hnm htb => ?_)
  have F : gFix K p s m args meth c cJ6_coder 1 RJ6 (some .byte) := F
  refine g_eql (lv' := [(0, .ref a)]) rfl ?_
  refine g_gets F (gZs_0 K) q895 (fun _ h9 => h9) dJ6_coder_0 ?_
  refine g_if_eq (tgt := 13) F dJ6_coder_3 (by decide) (fun c1 => absurd c1 (by decide)) (fun c1 => ?_)
  refine g_aload_n F dJ6_coder_6 0 rfl rfl ?_
  refine gf_J6_15_J6 (v := .int 0) F dJ6_coder_7 hs rfl ?_
  refine g_goto (tgt := 14) F dJ6_coder_10 (by decide) ?_
  exact g_zret F dJ6_coder_14 (by first | rfl | exact mIn_n | (split <;> rfl) | decide) (⟨rfl, rfl⟩)
set_option maxHeartbeats 4000000 in
set_option maxRecDepth 100000 in
theorem ct_J6_length {K : gK} {h : AH} {a bb n : Nat} {hv zv : Int32} {f : Nat → Int32} (hs : h a = some (.inr (7, [.ref bb, .int 0, .int hv, .int zv]))) (hb : h bb = some (.inl (gT K 1, n, .inl f))) (hn : n < 2 ^ 31) : gCt K yJ6_length w_J6_length 1 20 0 0 h [.ref a] (pR (.int (nI n)) h) := by
  refine g_meth pf_J6_length (nle rfl) (fun p e s m args below meth c F hnm htb => ?_)
  have F : gFix K p s m args meth c cJ6_length 1 RJ6 (some .int) := F
  refine g_eql (lv' := [(0, .ref a)]) rfl ?_
  refine g_aload_n F dJ6_length_0 0 rfl rfl ?_
  refine gf_J6_9_J6 (v := .ref bb) F dJ6_length_1 hs rfl ?_
  refine g_alen F (by decide) hb dJ6_length_4 ?_
  refine g_aload_n F dJ6_length_5 0 rfl rfl ?_
  refine g_callV F dJ6_length_6 mi_J6_coder q891 q892 q893 gc_J6 hs (ct_J6_coder hs) rfl rfl (nle rfl) (nle rfl) (nle rfl) (g_pur ?_) g_purX
  refine g_ishr F dJ6_length_9 ?_
  exact g_iret F dJ6_length_10 (⟨by rw [sShr], rfl⟩)
set_option maxHeartbeats 4000000 in
set_option maxRecDepth 100000 in
theorem ct_J6_charAt {K : gK} {h : AH} {a bb n : Nat} {hv zv : Int32} {f : Nat → Int32} (hs : h a = some (.inr (7, [.ref bb, .int 0, .int hv, .int zv]))) (hb : h bb = some (.inl (gT K 1, n, .inl f))) {x : Int32} {i : Nat} (hx : x = nI i) (hi : i < n) (hn : n < 2 ^ 31) : gCt K yJ6_charAt w_J6_charAt 3 64 0 0 h [.ref a, .int x] (pR (.int (sCh (f i))) h) := by
  refine g_meth pf_J6_charAt (nle rfl) (fun p e s m args below meth c F hnm htb => ?_)
  have F : gFix K p s m args meth c cJ6_charAt 2 RJ6 (some .char) := F
  refine g_eql (lv' := [(0, .ref a), (1, .int x)]) rfl ?_
  refine g_aload_n F dJ6_charAt_0 0 rfl rfl ?_
  refine g_callV F dJ6_charAt_1 mi_J6_isLatin1 q1368 q1369 q1370 gc_J6 hs (ct_J6_isLatin1 hs) rfl rfl (nle rfl) (nle rfl) (nle rfl) (g_pur ?_) g_purX
  refine g_if_eq (tgt := 16) F dJ6_charAt_4 (by decide) (fun c1 => absurd c1 (by decide)) (fun c1 => ?_)
  refine g_aload_n F dJ6_charAt_7 0 rfl rfl ?_
  refine gf_J6_9_J6 (v := .ref bb) F dJ6_charAt_8 hs rfl ?_
  refine g_iload_n F dJ6_charAt_11 1 rfl rfl ?_
  refine g_callS F dJ6_charAt_12 mi_J18_charAt q1986 q1987 (ct_J18_charAt hx hi hn hb) rfl rfl (nle rfl) (nle rfl) (nle rfl) (g_pur ?_) g_purX
  exact g_zret F dJ6_charAt_15 sCh_n (⟨rfl, rfl⟩)
