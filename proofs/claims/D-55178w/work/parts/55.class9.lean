/-! ===== The theatre: sums, noise (written by tools/class9.py) ===== -/
set_option maxHeartbeats 4000000 in
set_option maxRecDepth 100000 in
theorem ct_X18_of_2_0 {K : gK} {h : AH} {m0 : Nat} {z : Nat} {b0 b1 b2 b3 b4 b5 b6 : Int32} (hm : h m0 = some (.inr (17, [.int 0]))) (hb : h z = some (.inr (9, [.int b0, .int b1, .int b2, .int b3, .int b4, .int b5, .int b6]))) : gCt K yX18_of_2 w_X18_of_2 0 0 0 0 h [.ref m0, .ref z] (pR (.int b1) h) := by
  refine g_meth pf_X18_of_2 (nle rfl) (fun p e s m args below meth c F hnm htb => ?_)
  have F : gFix K p s m args meth c cX18_of_2 2 RX18 (some .int) := F
  refine g_eql (lv' := [(0, .ref m0), (1, .ref z)]) rfl ?_
  refine g_aload_n F dX18_of_2_0 0 rfl rfl ?_
  refine gf_X18_7_X18 (v := .int 0) F dX18_of_2_1 hm rfl ?_
  refine g_tableIn (off := 28) (tgt := 32) F dX18_of_2_4 (by decide) (by decide) rfl (by decide) ?_
  refine g_aload_n F dX18_of_2_32 1 rfl rfl ?_
  refine gf_X18_13_X5 (v := .int b1) F dX18_of_2_33 hb rfl ?_
  exact g_iret F dX18_of_2_36 (⟨rfl, rfl⟩)
set_option maxHeartbeats 4000000 in
set_option maxRecDepth 100000 in
theorem ct_X18_of_0 {K : gK} {h : AH} {m0 : Nat} {z : Nat} {b0 b1 b2 b3 b4 b5 b6 : Int32} (hm : h m0 = some (.inr (17, [.int 0]))) (hb : h z = some (.inr (9, [.int b0, .int b1, .int b2, .int b3, .int b4, .int b5, .int b6]))) : gCt K yX18_of w_X18_of 1 21 0 0 h [.ref m0, .ref z] (pR (.int b1) h) := by
  refine g_meth pf_X18_of (nle rfl) (fun p e s m args below meth c F hnm htb => ?_)
  have F : gFix K p s m args meth c cX18_of 2 RX18 (some .int) := F
  refine g_eql (lv' := [(0, .ref m0), (1, .ref z)]) rfl ?_
  refine g_aload_n F dX18_of_0 0 rfl rfl ?_
  refine g_aload_n F dX18_of_1 1 rfl rfl ?_
  refine g_castE F q1238 gc_X5 hb dX18_of_2 ?_
  refine g_callV F dX18_of_5 mi_X18_of_2 q1239 q1240 q1241 gc_X18 hm (ct_X18_of_2_0 hm hb) rfl rfl (nle rfl) (nle rfl) (nle rfl) (g_pur ?_) g_purX
  exact g_iret F dX18_of_8 (⟨rfl, rfl⟩)
set_option maxHeartbeats 4000000 in
set_option maxRecDepth 100000 in
theorem ct_X18_of_2_1 {K : gK} {h : AH} {m0 : Nat} {z : Nat} {b0 b1 b2 b3 b4 b5 b6 : Int32} (hm : h m0 = some (.inr (17, [.int 1]))) (hb : h z = some (.inr (9, [.int b0, .int b1, .int b2, .int b3, .int b4, .int b5, .int b6]))) : gCt K yX18_of_2 w_X18_of_2 0 0 0 0 h [.ref m0, .ref z] (pR (.int b2) h) := by
  refine g_meth pf_X18_of_2 (nle rfl) (fun p e s m args below meth c F hnm htb => ?_)
  have F : gFix K p s m args meth c cX18_of_2 2 RX18 (some .int) := F
  refine g_eql (lv' := [(0, .ref m0), (1, .ref z)]) rfl ?_
  refine g_aload_n F dX18_of_2_0 0 rfl rfl ?_
  refine gf_X18_7_X18 (v := .int 1) F dX18_of_2_1 hm rfl ?_
  refine g_tableIn (off := 33) (tgt := 37) F dX18_of_2_4 (by decide) (by decide) rfl (by decide) ?_
  refine g_aload_n F dX18_of_2_37 1 rfl rfl ?_
  refine gf_X18_18_X5 (v := .int b2) F dX18_of_2_38 hb rfl ?_
  exact g_iret F dX18_of_2_41 (⟨rfl, rfl⟩)
set_option maxHeartbeats 4000000 in
set_option maxRecDepth 100000 in
theorem ct_X18_of_1 {K : gK} {h : AH} {m0 : Nat} {z : Nat} {b0 b1 b2 b3 b4 b5 b6 : Int32} (hm : h m0 = some (.inr (17, [.int 1]))) (hb : h z = some (.inr (9, [.int b0, .int b1, .int b2, .int b3, .int b4, .int b5, .int b6]))) : gCt K yX18_of w_X18_of 1 21 0 0 h [.ref m0, .ref z] (pR (.int b2) h) := by
  refine g_meth pf_X18_of (nle rfl) (fun p e s m args below meth c F hnm htb => ?_)
  have F : gFix K p s m args meth c cX18_of 2 RX18 (some .int) := F
  refine g_eql (lv' := [(0, .ref m0), (1, .ref z)]) rfl ?_
  refine g_aload_n F dX18_of_0 0 rfl rfl ?_
  refine g_aload_n F dX18_of_1 1 rfl rfl ?_
  refine g_castE F q1238 gc_X5 hb dX18_of_2 ?_
  refine g_callV F dX18_of_5 mi_X18_of_2 q1239 q1240 q1241 gc_X18 hm (ct_X18_of_2_1 hm hb) rfl rfl (nle rfl) (nle rfl) (nle rfl) (g_pur ?_) g_purX
  exact g_iret F dX18_of_8 (⟨rfl, rfl⟩)
set_option maxHeartbeats 4000000 in
set_option maxRecDepth 100000 in
theorem ct_X18_of_2_2 {K : gK} {h : AH} {m0 : Nat} {z : Nat} {b0 b1 b2 b3 b4 b5 b6 : Int32} (hm : h m0 = some (.inr (17, [.int 2]))) (hb : h z = some (.inr (9, [.int b0, .int b1, .int b2, .int b3, .int b4, .int b5, .int b6]))) : gCt K yX18_of_2 w_X18_of_2 0 0 0 0 h [.ref m0, .ref z] (pR (.int b4) h) := by
  refine g_meth pf_X18_of_2 (nle rfl) (fun p e s m args below meth c F hnm htb => ?_)
  have F : gFix K p s m args meth c cX18_of_2 2 RX18 (some .int) := F
  refine g_eql (lv' := [(0, .ref m0), (1, .ref z)]) rfl ?_
  refine g_aload_n F dX18_of_2_0 0 rfl rfl ?_
  refine gf_X18_7_X18 (v := .int 2) F dX18_of_2_1 hm rfl ?_
  refine g_tableIn (off := 38) (tgt := 42) F dX18_of_2_4 (by decide) (by decide) rfl (by decide) ?_
  refine g_aload_n F dX18_of_2_42 1 rfl rfl ?_
  refine gf_X18_21_X5 (v := .int b4) F dX18_of_2_43 hb rfl ?_
  exact g_iret F dX18_of_2_46 (⟨rfl, rfl⟩)
set_option maxHeartbeats 4000000 in
set_option maxRecDepth 100000 in
theorem ct_X18_of_2 {K : gK} {h : AH} {m0 : Nat} {z : Nat} {b0 b1 b2 b3 b4 b5 b6 : Int32} (hm : h m0 = some (.inr (17, [.int 2]))) (hb : h z = some (.inr (9, [.int b0, .int b1, .int b2, .int b3, .int b4, .int b5, .int b6]))) : gCt K yX18_of w_X18_of 1 21 0 0 h [.ref m0, .ref z] (pR (.int b4) h) := by
  refine g_meth pf_X18_of (nle rfl) (fun p e s m args below meth c F hnm htb => ?_)
  have F : gFix K p s m args meth c cX18_of 2 RX18 (some .int) := F
  refine g_eql (lv' := [(0, .ref m0), (1, .ref z)]) rfl ?_
  refine g_aload_n F dX18_of_0 0 rfl rfl ?_
  refine g_aload_n F dX18_of_1 1 rfl rfl ?_
  refine g_castE F q1238 gc_X5 hb dX18_of_2 ?_
  refine g_callV F dX18_of_5 mi_X18_of_2 q1239 q1240 q1241 gc_X18 hm (ct_X18_of_2_2 hm hb) rfl rfl (nle rfl) (nle rfl) (nle rfl) (g_pur ?_) g_purX
  exact g_iret F dX18_of_8 (⟨rfl, rfl⟩)
set_option maxHeartbeats 4000000 in
set_option maxRecDepth 100000 in
theorem ct_X18_of_2_3 {K : gK} {h : AH} {m0 : Nat} {z : Nat} {b0 b1 b2 b3 b4 b5 b6 : Int32} (hm : h m0 = some (.inr (17, [.int 3]))) (hb : h z = some (.inr (9, [.int b0, .int b1, .int b2, .int b3, .int b4, .int b5, .int b6]))) : gCt K yX18_of_2 w_X18_of_2 0 0 0 0 h [.ref m0, .ref z] (pR (.int b6) h) := by
  refine g_meth pf_X18_of_2 (nle rfl) (fun p e s m args below meth c F hnm htb => ?_)
  have F : gFix K p s m args meth c cX18_of_2 2 RX18 (some .int) := F
  refine g_eql (lv' := [(0, .ref m0), (1, .ref z)]) rfl ?_
  refine g_aload_n F dX18_of_2_0 0 rfl rfl ?_
  refine gf_X18_7_X18 (v := .int 3) F dX18_of_2_1 hm rfl ?_
  refine g_tableOut (tgt := 47) F dX18_of_2_4 (by decide) (by decide) ?_
  refine g_aload_n F dX18_of_2_47 1 rfl rfl ?_
  refine gf_X18_24_X5 (v := .int b6) F dX18_of_2_48 hb rfl ?_
  exact g_iret F dX18_of_2_51 (⟨rfl, rfl⟩)
set_option maxHeartbeats 4000000 in
set_option maxRecDepth 100000 in
theorem ct_X18_of_3 {K : gK} {h : AH} {m0 : Nat} {z : Nat} {b0 b1 b2 b3 b4 b5 b6 : Int32} (hm : h m0 = some (.inr (17, [.int 3]))) (hb : h z = some (.inr (9, [.int b0, .int b1, .int b2, .int b3, .int b4, .int b5, .int b6]))) : gCt K yX18_of w_X18_of 1 21 0 0 h [.ref m0, .ref z] (pR (.int b6) h) := by
  refine g_meth pf_X18_of (nle rfl) (fun p e s m args below meth c F hnm htb => ?_)
  have F : gFix K p s m args meth c cX18_of 2 RX18 (some .int) := F
  refine g_eql (lv' := [(0, .ref m0), (1, .ref z)]) rfl ?_
  refine g_aload_n F dX18_of_0 0 rfl rfl ?_
  refine g_aload_n F dX18_of_1 1 rfl rfl ?_
  refine g_castE F q1238 gc_X5 hb dX18_of_2 ?_
  refine g_callV F dX18_of_5 mi_X18_of_2 q1239 q1240 q1241 gc_X18 hm (ct_X18_of_2_3 hm hb) rfl rfl (nle rfl) (nle rfl) (nle rfl) (g_pur ?_) g_purX
  exact g_iret F dX18_of_8 (⟨rfl, rfl⟩)
set_option maxHeartbeats 4000000 in
set_option maxRecDepth 100000 in
theorem ct_X11_of_2 {K : gK} {h : AH} {m0 t0 z : Nat} {x b0 b1 b2 : Int32} (hm : h m0 = some (.inr (16, [.int x, .ref t0]))) (hb : h z = some (.inr (11, [.int b0, .int b1, .int b2]))) : gCt K yX11_of_2 w_X11_of_2 0 0 0 0 h [.ref m0, .ref z] (pR (.int (if b2 = x then b1 else 0)) h) := by
  refine g_meth pf_X11_of_2 (nle rfl) (fun p e s m args below meth c F hnm htb => ?_)
  have F : gFix K p s m args meth c cX11_of_2 2 RX11 (some .int) := F
  refine g_eql (lv' := [(0, .ref m0), (1, .ref z)]) rfl ?_
  refine g_aload_n F dX11_of_2_0 1 rfl rfl ?_
  refine gf_X11_17_X7 (v := .int b2) F dX11_of_2_1 hb rfl ?_
  refine g_aload_n F dX11_of_2_4 0 rfl rfl ?_
  refine gf_X11_7_X11 (v := .int x) F dX11_of_2_5 hm rfl ?_
  refine g_icmp_ne (tgt := 18) F dX11_of_2_8 (by decide) (fun c1 => ?_) (fun c1 => ?_)
  · have d0 := c1
    refine g_iconst (v := 0) F dX11_of_2_18 rfl ?_
    exact g_iret F dX11_of_2_19 (⟨by simp [d0], rfl⟩)
  · have d0 := c1
    refine g_aload_n F dX11_of_2_11 1 rfl rfl ?_
    refine gf_X11_22_X7 (v := .int b1) F dX11_of_2_12 hb rfl ?_
    refine g_goto (tgt := 19) F dX11_of_2_15 (by decide) ?_
    exact g_iret F dX11_of_2_19 (⟨by simp [d0], rfl⟩)
set_option maxHeartbeats 4000000 in
set_option maxRecDepth 100000 in
theorem ct_X11_of {K : gK} {h : AH} {m0 t0 z : Nat} {x b0 b1 b2 : Int32} (hm : h m0 = some (.inr (16, [.int x, .ref t0]))) (hb : h z = some (.inr (11, [.int b0, .int b1, .int b2]))) : gCt K yX11_of w_X11_of 1 21 0 0 h [.ref m0, .ref z] (pR (.int (if b2 = x then b1 else 0)) h) := by
  refine g_meth pf_X11_of (nle rfl) (fun p e s m args below meth c F hnm htb => ?_)
  have F : gFix K p s m args meth c cX11_of 2 RX11 (some .int) := F
  refine g_eql (lv' := [(0, .ref m0), (1, .ref z)]) rfl ?_
  refine g_aload_n F dX11_of_0 0 rfl rfl ?_
  refine g_aload_n F dX11_of_1 1 rfl rfl ?_
  refine g_castE F q1249 gc_X7 hb dX11_of_2 ?_
  refine g_callV F dX11_of_5 mi_X11_of_2 q1250 q1251 q1252 gc_X11 hm (ct_X11_of_2 hm hb) rfl rfl (nle rfl) (nle rfl) (nle rfl) (g_pur ?_) g_purX
  exact g_iret F dX11_of_8 (⟨rfl, rfl⟩)
set_option maxHeartbeats 4000000 in
set_option maxRecDepth 100000 in
theorem ct_X12_sum_0 {K : gK} {N : Nat → Prop} {h : AH} {A : Nat → Nat → Nat} {o : Nat → Nat} {f : Nat → Int32} {nb nc nh nq : Nat} (hT : th K N h A o f nb nc nh nq) {m0 : Nat} (hm : h m0 = some (.inr (17, [.int 0]))) : gCt K yX12_sum w_X12_sum 5 104 1 2 h [.ref (A 0 0), .ref m0] (pO (fun v h9 => v = some (.int (mSum (fun k => f (11 + 4 * k)) nb)) ∧ gE h h9)) := by
  refine g_meth pf_X12_sum (nle rfl) (fun p e s m args below meth c F hnm htb => ?_)
  have F : gFix K p s m args meth c cX12_sum 5 RX12 (some .int) := F
  refine g_eql (lv' := [(0, .ref (A 0 0)), (1, .ref m0)]) rfl ?_
  have hTt := hT
  obtain ⟨⟨hT0, hTN⟩, hRw, ⟨MD, hLs⟩, ⟨dz, hZ0, hZN, hZo, hZd⟩, ⟨hB, hBN⟩, ⟨hCu, hCN⟩, ⟨hHa, hHN⟩, hQu, hDj, hSg⟩ := hTt
  have hR0 : h (A 0 0) = some (.inr (3, [.ref (A 1 0), .int 8])) := hRw 0 (by decide)
  have hR1 : h (A 0 1) = some (.inr (3, [.ref (A 1 1), .int 12])) := hRw 1 (by decide)
  have hR2 : h (A 0 2) = some (.inr (3, [.ref (A 1 2), .int 6])) := hRw 2 (by decide)
  have hR3 : h (A 0 3) = some (.inr (3, [.ref (A 1 3), .int 12])) := hRw 3 (by decide)
  have hL0 : lsO K N h (A 1 0) (A 2 0) nb (A 3) (MD 0) := hLs 0 (by decide)
  have hL1 : lsO K N h (A 1 1) (A 2 1) nc (A 4) (MD 1) := hLs 1 (by decide)
  have hL2 : lsO K N h (A 1 2) (A 2 2) nh (A 5) (MD 2) := hLs 2 (by decide)
  have hL3 : lsO K N h (A 1 3) (A 2 3) nq (fun i => A 6 (o i)) (MD 3) := hLs 3 (by decide)
  have nb15 : nb ≤ 15 := hL0.2.2.1
  have nc15 : nc ≤ 15 := hL1.2.2.1
  have nh15 : nh ≤ 15 := hL2.2.2.1
  have nq15 : nq ≤ 15 := hL3.2.2.1
  refine g_iconst (v := 0) F dX12_sum_0 rfl ?_
  refine g_istore_n (lv' := [(2, .int 0), (0, .ref (A 0 0)), (1, .ref m0)]) F dX12_sum_1 rfl (by decide) rfl ?_
  refine g_aload_n F dX12_sum_2 1 rfl rfl ?_
  refine g_callF (x := ⟨"java/lang/Iterable", "iterator", "()Ljava/util/Iterator;"⟩) (b := 0) (bs := 0) F dX12_sum_3 mi_X3_iterator rfl q1223 14 rfl q744 q1062 gc_X3 hR0 ct_X3_iterator rfl rfl (nle rfl) (nle rfl) (nle rfl) (g_pO (fun v1 h_2 p3 => ?_)) g_pOX
  obtain ⟨q8, rfl, hn_e9, ho_e9, e9⟩ := p3
  have w10 := gE.no gE.rf hn_e9
  have d11 := gnew hn_e9 (hL0).1
  have d12 := gnew hn_e9 (hL1).1
  have d13 := gnew hn_e9 (hL2).1
  have d14 := gnew hn_e9 (hL3).1
  have x15 := gE.new1 gE.rf e9 hn_e9
  have f16 := gu_a e9
  refine g_eqs (st' := [.ref q8]) rfl ?_
  refine g_astore_n (lv' := [(3, .ref q8), (2, .int 0), (0, .ref (A 0 0)), (1, .ref m0)]) F dX12_sum_8 rfl (by decide) rfl ?_
  have lp9 : ∀ k, k ≤ nb → ∀ (h9 : AH), (gE h h9) → (h9 q8 = some (.inr (13, [.int (nI k), .ref (A 0 0)]))) → G K p e s m args below meth c (gRm 5 104 1 2) 5 (pO (fun v h9 => v = some (.int (mSum (fun k => f (11 + 4 * k)) nb)) ∧ gE h h9)) h9 (0) (0) 9 [(0, .ref (A 0 0)), (1, .ref m0), (2, .int (mSum (fun k => f (11 + 4 * k)) k)), (3, .ref q8)] [] := by
    refine gloop nb (fun k hk ih => ?_)
    intro h9 hE9 hs9
    refine g_aload_n F dX12_sum_9 3 rfl rfl ?_
    refine g_callF (x := ⟨"java/util/Iterator", "hasNext", "()Z"⟩) F dX12_sum_10 mi_X13_hasNext rfl q1225 0 rfl q372 q370 gc_X13 hs9 (ct_X13_hasNext (k := k) (hE9 _ _ hR0) (lsO.up hE9 hL0) hs9 (by omega)) rfl rfl (nle rfl) (nle rfl) (nle rfl) (g_pur ?_) g_purX
    refine g_if_eq (tgt := 40) F dX12_sum_15 (by decide) (fun c24 => ?_) (fun c24 => ?_)
    · have hkn : nb = k := by have : ¬ k < nb := (fun z => by simp [z] at c24); omega
      subst hkn
      refine g_iload_n F dX12_sum_40 2 rfl rfl ?_
      exact g_iret F dX12_sum_41 (⟨_, rfl, rfl, hE9⟩)
    · have hlt : k < nb := Classical.byContradiction (fun z => c24 (by simp [z]))
      refine g_aload_n F dX12_sum_18 3 rfl rfl ?_
      refine g_callF (x := ⟨"java/util/Iterator", "next", "()Ljava/lang/Object;"⟩) F dX12_sum_19 mi_X13_next rfl q1227 3 rfl q394 q392 gc_X13 hs9 (ct_X13_next (hE9 _ _ hR0) (lsO.up hE9 hL0) hs9 ho_e9 hlt (fun i hi => gNum_b (hE9 _ _ (hB _ hi)))) rfl rfl (nle rfl) (nle rfl) (nle rfl) (g_pur ?_) g_purX
      refine g_gen (fun h_32 e33 => ?_)
      have x34 := gE.wr1 hE9 e33 w10
      have f35 := gu_a e33
      have b36 : h (A 3 k) = some (.inr (9, [.int (nI k), .int (f (11 + 4 * k)), .int (mLoad f nc (nI k)), .int (mCnt f nc (nI k)), .int (f (12 + 4 * k)), .int (f (13 + 4 * k)), .int (f (14 + 4 * k))])) := hB _ hlt
      refine g_eqs (st' := [.ref (A 3 k)]) rfl ?_
      refine g_astore (lv' := [(4, .ref (A 3 k)), (0, .ref (A 0 0)), (1, .ref m0), (2, .int (mSum (fun k => f (11 + 4 * k)) k)), (3, .ref q8)]) F dX12_sum_24 (by decide) rfl ?_
      refine g_iload_n F dX12_sum_26 3 rfl rfl ?_
      refine g_aload_n F dX12_sum_27 2 rfl rfl ?_
      refine g_aload F dX12_sum_28 0 rfl ?_
      refine g_callF (x := ⟨"CurtainRiggers$Measure", "of", "(Ljava/lang/Object;)I"⟩) F dX12_sum_30 mi_X18_of rfl q1229 19 rfl q1235 q1233 gc_X18 (x34 _ _ hm) (ct_X18_of_0 (x34 _ _ hm) (x34 _ _ b36)) rfl rfl (nle rfl) (nle rfl) (nle rfl) (g_pur ?_) g_purX
      refine g_iadd F dX12_sum_35 ?_
      refine g_istore_n (lv' := [(2, .int ((mSum (fun k => f (11 + 4 * k)) k) + (f (11 + 4 * k)))), (4, .ref (A 3 k)), (0, .ref (A 0 0)), (1, .ref m0), (3, .ref q8)]) F dX12_sum_36 rfl (by decide) rfl ?_
      refine g_goto (tgt := 9) F dX12_sum_37 (by decide) ?_
      refine g_lv (lv' := [(0, .ref (A 0 0)), (1, .ref m0), (2, .int ((mSum (fun k => f (11 + 4 * k)) k) + (f (11 + 4 * k)))), (3, .ref q8)]) [2, 3, 0, 4] rfl ?_
      exact g_eql (lv' := [(0, .ref (A 0 0)), (1, .ref m0), (2, .int (mSum (fun k => f (11 + 4 * k)) (k + 1))), (3, .ref q8)]) (by simp only [mSum_s]) (ih hlt h_32 x34 f35)
  refine g_lv (lv' := [(0, .ref (A 0 0)), (1, .ref m0), (2, .int 0), (3, .ref q8)]) [2, 3, 1, 0] rfl ?_
  exact lp9 0 (Nat.zero_le _) h_2 x15 f16
set_option maxHeartbeats 4000000 in
set_option maxRecDepth 100000 in
theorem ct_X12_sum_1 {K : gK} {N : Nat → Prop} {h : AH} {A : Nat → Nat → Nat} {o : Nat → Nat} {f : Nat → Int32} {nb nc nh nq : Nat} (hT : th K N h A o f nb nc nh nq) {m0 : Nat} (hm : h m0 = some (.inr (17, [.int 1]))) : gCt K yX12_sum w_X12_sum 5 104 1 2 h [.ref (A 0 0), .ref m0] (pO (fun v h9 => v = some (.int (mSum (fun k => mLoad f nc (nI k)) nb)) ∧ gE h h9)) := by
  refine g_meth pf_X12_sum (nle rfl) (fun p e s m args below meth c F hnm htb => ?_)
  have F : gFix K p s m args meth c cX12_sum 5 RX12 (some .int) := F
  refine g_eql (lv' := [(0, .ref (A 0 0)), (1, .ref m0)]) rfl ?_
  have hTt := hT
  obtain ⟨⟨hT0, hTN⟩, hRw, ⟨MD, hLs⟩, ⟨dz, hZ0, hZN, hZo, hZd⟩, ⟨hB, hBN⟩, ⟨hCu, hCN⟩, ⟨hHa, hHN⟩, hQu, hDj, hSg⟩ := hTt
  have hR0 : h (A 0 0) = some (.inr (3, [.ref (A 1 0), .int 8])) := hRw 0 (by decide)
  have hR1 : h (A 0 1) = some (.inr (3, [.ref (A 1 1), .int 12])) := hRw 1 (by decide)
  have hR2 : h (A 0 2) = some (.inr (3, [.ref (A 1 2), .int 6])) := hRw 2 (by decide)
  have hR3 : h (A 0 3) = some (.inr (3, [.ref (A 1 3), .int 12])) := hRw 3 (by decide)
  have hL0 : lsO K N h (A 1 0) (A 2 0) nb (A 3) (MD 0) := hLs 0 (by decide)
  have hL1 : lsO K N h (A 1 1) (A 2 1) nc (A 4) (MD 1) := hLs 1 (by decide)
  have hL2 : lsO K N h (A 1 2) (A 2 2) nh (A 5) (MD 2) := hLs 2 (by decide)
  have hL3 : lsO K N h (A 1 3) (A 2 3) nq (fun i => A 6 (o i)) (MD 3) := hLs 3 (by decide)
  have nb15 : nb ≤ 15 := hL0.2.2.1
  have nc15 : nc ≤ 15 := hL1.2.2.1
  have nh15 : nh ≤ 15 := hL2.2.2.1
  have nq15 : nq ≤ 15 := hL3.2.2.1
  refine g_iconst (v := 0) F dX12_sum_0 rfl ?_
  refine g_istore_n (lv' := [(2, .int 0), (0, .ref (A 0 0)), (1, .ref m0)]) F dX12_sum_1 rfl (by decide) rfl ?_
  refine g_aload_n F dX12_sum_2 1 rfl rfl ?_
  refine g_callF (x := ⟨"java/lang/Iterable", "iterator", "()Ljava/util/Iterator;"⟩) (b := 0) (bs := 0) F dX12_sum_3 mi_X3_iterator rfl q1223 14 rfl q744 q1062 gc_X3 hR0 ct_X3_iterator rfl rfl (nle rfl) (nle rfl) (nle rfl) (g_pO (fun v1 h_2 p3 => ?_)) g_pOX
  obtain ⟨q8, rfl, hn_e9, ho_e9, e9⟩ := p3
  have w10 := gE.no gE.rf hn_e9
  have d11 := gnew hn_e9 (hL0).1
  have d12 := gnew hn_e9 (hL1).1
  have d13 := gnew hn_e9 (hL2).1
  have d14 := gnew hn_e9 (hL3).1
  have x15 := gE.new1 gE.rf e9 hn_e9
  have f16 := gu_a e9
  refine g_eqs (st' := [.ref q8]) rfl ?_
  refine g_astore_n (lv' := [(3, .ref q8), (2, .int 0), (0, .ref (A 0 0)), (1, .ref m0)]) F dX12_sum_8 rfl (by decide) rfl ?_
  have lp9 : ∀ k, k ≤ nb → ∀ (h9 : AH), (gE h h9) → (h9 q8 = some (.inr (13, [.int (nI k), .ref (A 0 0)]))) → G K p e s m args below meth c (gRm 5 104 1 2) 5 (pO (fun v h9 => v = some (.int (mSum (fun k => mLoad f nc (nI k)) nb)) ∧ gE h h9)) h9 (0) (0) 9 [(0, .ref (A 0 0)), (1, .ref m0), (2, .int (mSum (fun k => mLoad f nc (nI k)) k)), (3, .ref q8)] [] := by
    refine gloop nb (fun k hk ih => ?_)
    intro h9 hE9 hs9
    refine g_aload_n F dX12_sum_9 3 rfl rfl ?_
    refine g_callF (x := ⟨"java/util/Iterator", "hasNext", "()Z"⟩) F dX12_sum_10 mi_X13_hasNext rfl q1225 0 rfl q372 q370 gc_X13 hs9 (ct_X13_hasNext (k := k) (hE9 _ _ hR0) (lsO.up hE9 hL0) hs9 (by omega)) rfl rfl (nle rfl) (nle rfl) (nle rfl) (g_pur ?_) g_purX
    refine g_if_eq (tgt := 40) F dX12_sum_15 (by decide) (fun c24 => ?_) (fun c24 => ?_)
    · have hkn : nb = k := by have : ¬ k < nb := (fun z => by simp [z] at c24); omega
      subst hkn
      refine g_iload_n F dX12_sum_40 2 rfl rfl ?_
      exact g_iret F dX12_sum_41 (⟨_, rfl, rfl, hE9⟩)
    · have hlt : k < nb := Classical.byContradiction (fun z => c24 (by simp [z]))
      refine g_aload_n F dX12_sum_18 3 rfl rfl ?_
      refine g_callF (x := ⟨"java/util/Iterator", "next", "()Ljava/lang/Object;"⟩) F dX12_sum_19 mi_X13_next rfl q1227 3 rfl q394 q392 gc_X13 hs9 (ct_X13_next (hE9 _ _ hR0) (lsO.up hE9 hL0) hs9 ho_e9 hlt (fun i hi => gNum_b (hE9 _ _ (hB _ hi)))) rfl rfl (nle rfl) (nle rfl) (nle rfl) (g_pur ?_) g_purX
      refine g_gen (fun h_32 e33 => ?_)
      have x34 := gE.wr1 hE9 e33 w10
      have f35 := gu_a e33
      have b36 : h (A 3 k) = some (.inr (9, [.int (nI k), .int (f (11 + 4 * k)), .int (mLoad f nc (nI k)), .int (mCnt f nc (nI k)), .int (f (12 + 4 * k)), .int (f (13 + 4 * k)), .int (f (14 + 4 * k))])) := hB _ hlt
      refine g_eqs (st' := [.ref (A 3 k)]) rfl ?_
      refine g_astore (lv' := [(4, .ref (A 3 k)), (0, .ref (A 0 0)), (1, .ref m0), (2, .int (mSum (fun k => mLoad f nc (nI k)) k)), (3, .ref q8)]) F dX12_sum_24 (by decide) rfl ?_
      refine g_iload_n F dX12_sum_26 3 rfl rfl ?_
      refine g_aload_n F dX12_sum_27 2 rfl rfl ?_
      refine g_aload F dX12_sum_28 0 rfl ?_
      refine g_callF (x := ⟨"CurtainRiggers$Measure", "of", "(Ljava/lang/Object;)I"⟩) F dX12_sum_30 mi_X18_of rfl q1229 19 rfl q1235 q1233 gc_X18 (x34 _ _ hm) (ct_X18_of_1 (x34 _ _ hm) (x34 _ _ b36)) rfl rfl (nle rfl) (nle rfl) (nle rfl) (g_pur ?_) g_purX
      refine g_iadd F dX12_sum_35 ?_
      refine g_istore_n (lv' := [(2, .int ((mSum (fun k => mLoad f nc (nI k)) k) + (mLoad f nc (nI k)))), (4, .ref (A 3 k)), (0, .ref (A 0 0)), (1, .ref m0), (3, .ref q8)]) F dX12_sum_36 rfl (by decide) rfl ?_
      refine g_goto (tgt := 9) F dX12_sum_37 (by decide) ?_
      refine g_lv (lv' := [(0, .ref (A 0 0)), (1, .ref m0), (2, .int ((mSum (fun k => mLoad f nc (nI k)) k) + (mLoad f nc (nI k)))), (3, .ref q8)]) [2, 3, 0, 4] rfl ?_
      exact g_eql (lv' := [(0, .ref (A 0 0)), (1, .ref m0), (2, .int (mSum (fun k => mLoad f nc (nI k)) (k + 1))), (3, .ref q8)]) (by simp only [mSum_s]) (ih hlt h_32 x34 f35)
  refine g_lv (lv' := [(0, .ref (A 0 0)), (1, .ref m0), (2, .int 0), (3, .ref q8)]) [2, 3, 1, 0] rfl ?_
  exact lp9 0 (Nat.zero_le _) h_2 x15 f16
set_option maxHeartbeats 4000000 in
set_option maxRecDepth 100000 in
theorem ct_X12_sum_2 {K : gK} {N : Nat → Prop} {h : AH} {A : Nat → Nat → Nat} {o : Nat → Nat} {f : Nat → Int32} {nb nc nh nq : Nat} (hT : th K N h A o f nb nc nh nq) {m0 : Nat} (hm : h m0 = some (.inr (17, [.int 2]))) : gCt K yX12_sum w_X12_sum 5 104 1 2 h [.ref (A 0 0), .ref m0] (pO (fun v h9 => v = some (.int (mSum (fun k => f (12 + 4 * k)) nb)) ∧ gE h h9)) := by
  refine g_meth pf_X12_sum (nle rfl) (fun p e s m args below meth c F hnm htb => ?_)
  have F : gFix K p s m args meth c cX12_sum 5 RX12 (some .int) := F
  refine g_eql (lv' := [(0, .ref (A 0 0)), (1, .ref m0)]) rfl ?_
  have hTt := hT
  obtain ⟨⟨hT0, hTN⟩, hRw, ⟨MD, hLs⟩, ⟨dz, hZ0, hZN, hZo, hZd⟩, ⟨hB, hBN⟩, ⟨hCu, hCN⟩, ⟨hHa, hHN⟩, hQu, hDj, hSg⟩ := hTt
  have hR0 : h (A 0 0) = some (.inr (3, [.ref (A 1 0), .int 8])) := hRw 0 (by decide)
  have hR1 : h (A 0 1) = some (.inr (3, [.ref (A 1 1), .int 12])) := hRw 1 (by decide)
  have hR2 : h (A 0 2) = some (.inr (3, [.ref (A 1 2), .int 6])) := hRw 2 (by decide)
  have hR3 : h (A 0 3) = some (.inr (3, [.ref (A 1 3), .int 12])) := hRw 3 (by decide)
  have hL0 : lsO K N h (A 1 0) (A 2 0) nb (A 3) (MD 0) := hLs 0 (by decide)
  have hL1 : lsO K N h (A 1 1) (A 2 1) nc (A 4) (MD 1) := hLs 1 (by decide)
  have hL2 : lsO K N h (A 1 2) (A 2 2) nh (A 5) (MD 2) := hLs 2 (by decide)
  have hL3 : lsO K N h (A 1 3) (A 2 3) nq (fun i => A 6 (o i)) (MD 3) := hLs 3 (by decide)
  have nb15 : nb ≤ 15 := hL0.2.2.1
  have nc15 : nc ≤ 15 := hL1.2.2.1
  have nh15 : nh ≤ 15 := hL2.2.2.1
  have nq15 : nq ≤ 15 := hL3.2.2.1
  refine g_iconst (v := 0) F dX12_sum_0 rfl ?_
  refine g_istore_n (lv' := [(2, .int 0), (0, .ref (A 0 0)), (1, .ref m0)]) F dX12_sum_1 rfl (by decide) rfl ?_
  refine g_aload_n F dX12_sum_2 1 rfl rfl ?_
  refine g_callF (x := ⟨"java/lang/Iterable", "iterator", "()Ljava/util/Iterator;"⟩) (b := 0) (bs := 0) F dX12_sum_3 mi_X3_iterator rfl q1223 14 rfl q744 q1062 gc_X3 hR0 ct_X3_iterator rfl rfl (nle rfl) (nle rfl) (nle rfl) (g_pO (fun v1 h_2 p3 => ?_)) g_pOX
  obtain ⟨q8, rfl, hn_e9, ho_e9, e9⟩ := p3
  have w10 := gE.no gE.rf hn_e9
  have d11 := gnew hn_e9 (hL0).1
  have d12 := gnew hn_e9 (hL1).1
  have d13 := gnew hn_e9 (hL2).1
  have d14 := gnew hn_e9 (hL3).1
  have x15 := gE.new1 gE.rf e9 hn_e9
  have f16 := gu_a e9
  refine g_eqs (st' := [.ref q8]) rfl ?_
  refine g_astore_n (lv' := [(3, .ref q8), (2, .int 0), (0, .ref (A 0 0)), (1, .ref m0)]) F dX12_sum_8 rfl (by decide) rfl ?_
  have lp9 : ∀ k, k ≤ nb → ∀ (h9 : AH), (gE h h9) → (h9 q8 = some (.inr (13, [.int (nI k), .ref (A 0 0)]))) → G K p e s m args below meth c (gRm 5 104 1 2) 5 (pO (fun v h9 => v = some (.int (mSum (fun k => f (12 + 4 * k)) nb)) ∧ gE h h9)) h9 (0) (0) 9 [(0, .ref (A 0 0)), (1, .ref m0), (2, .int (mSum (fun k => f (12 + 4 * k)) k)), (3, .ref q8)] [] := by
    refine gloop nb (fun k hk ih => ?_)
    intro h9 hE9 hs9
    refine g_aload_n F dX12_sum_9 3 rfl rfl ?_
    refine g_callF (x := ⟨"java/util/Iterator", "hasNext", "()Z"⟩) F dX12_sum_10 mi_X13_hasNext rfl q1225 0 rfl q372 q370 gc_X13 hs9 (ct_X13_hasNext (k := k) (hE9 _ _ hR0) (lsO.up hE9 hL0) hs9 (by omega)) rfl rfl (nle rfl) (nle rfl) (nle rfl) (g_pur ?_) g_purX
    refine g_if_eq (tgt := 40) F dX12_sum_15 (by decide) (fun c24 => ?_) (fun c24 => ?_)
    · have hkn : nb = k := by have : ¬ k < nb := (fun z => by simp [z] at c24); omega
      subst hkn
      refine g_iload_n F dX12_sum_40 2 rfl rfl ?_
      exact g_iret F dX12_sum_41 (⟨_, rfl, rfl, hE9⟩)
    · have hlt : k < nb := Classical.byContradiction (fun z => c24 (by simp [z]))
      refine g_aload_n F dX12_sum_18 3 rfl rfl ?_
      refine g_callF (x := ⟨"java/util/Iterator", "next", "()Ljava/lang/Object;"⟩) F dX12_sum_19 mi_X13_next rfl q1227 3 rfl q394 q392 gc_X13 hs9 (ct_X13_next (hE9 _ _ hR0) (lsO.up hE9 hL0) hs9 ho_e9 hlt (fun i hi => gNum_b (hE9 _ _ (hB _ hi)))) rfl rfl (nle rfl) (nle rfl) (nle rfl) (g_pur ?_) g_purX
      refine g_gen (fun h_32 e33 => ?_)
      have x34 := gE.wr1 hE9 e33 w10
      have f35 := gu_a e33
      have b36 : h (A 3 k) = some (.inr (9, [.int (nI k), .int (f (11 + 4 * k)), .int (mLoad f nc (nI k)), .int (mCnt f nc (nI k)), .int (f (12 + 4 * k)), .int (f (13 + 4 * k)), .int (f (14 + 4 * k))])) := hB _ hlt
      refine g_eqs (st' := [.ref (A 3 k)]) rfl ?_
      refine g_astore (lv' := [(4, .ref (A 3 k)), (0, .ref (A 0 0)), (1, .ref m0), (2, .int (mSum (fun k => f (12 + 4 * k)) k)), (3, .ref q8)]) F dX12_sum_24 (by decide) rfl ?_
      refine g_iload_n F dX12_sum_26 3 rfl rfl ?_
      refine g_aload_n F dX12_sum_27 2 rfl rfl ?_
      refine g_aload F dX12_sum_28 0 rfl ?_
      refine g_callF (x := ⟨"CurtainRiggers$Measure", "of", "(Ljava/lang/Object;)I"⟩) F dX12_sum_30 mi_X18_of rfl q1229 19 rfl q1235 q1233 gc_X18 (x34 _ _ hm) (ct_X18_of_2 (x34 _ _ hm) (x34 _ _ b36)) rfl rfl (nle rfl) (nle rfl) (nle rfl) (g_pur ?_) g_purX
      refine g_iadd F dX12_sum_35 ?_
      refine g_istore_n (lv' := [(2, .int ((mSum (fun k => f (12 + 4 * k)) k) + (f (12 + 4 * k)))), (4, .ref (A 3 k)), (0, .ref (A 0 0)), (1, .ref m0), (3, .ref q8)]) F dX12_sum_36 rfl (by decide) rfl ?_
      refine g_goto (tgt := 9) F dX12_sum_37 (by decide) ?_
      refine g_lv (lv' := [(0, .ref (A 0 0)), (1, .ref m0), (2, .int ((mSum (fun k => f (12 + 4 * k)) k) + (f (12 + 4 * k)))), (3, .ref q8)]) [2, 3, 0, 4] rfl ?_
      exact g_eql (lv' := [(0, .ref (A 0 0)), (1, .ref m0), (2, .int (mSum (fun k => f (12 + 4 * k)) (k + 1))), (3, .ref q8)]) (by simp only [mSum_s]) (ih hlt h_32 x34 f35)
  refine g_lv (lv' := [(0, .ref (A 0 0)), (1, .ref m0), (2, .int 0), (3, .ref q8)]) [2, 3, 1, 0] rfl ?_
  exact lp9 0 (Nat.zero_le _) h_2 x15 f16
set_option maxHeartbeats 4000000 in
set_option maxRecDepth 100000 in
theorem ct_X12_sum_3 {K : gK} {N : Nat → Prop} {h : AH} {A : Nat → Nat → Nat} {o : Nat → Nat} {f : Nat → Int32} {nb nc nh nq : Nat} (hT : th K N h A o f nb nc nh nq) {m0 : Nat} (hm : h m0 = some (.inr (17, [.int 3]))) : gCt K yX12_sum w_X12_sum 5 104 1 2 h [.ref (A 0 0), .ref m0] (pO (fun v h9 => v = some (.int (mSum (fun k => f (14 + 4 * k)) nb)) ∧ gE h h9)) := by
  refine g_meth pf_X12_sum (nle rfl) (fun p e s m args below meth c F hnm htb => ?_)
  have F : gFix K p s m args meth c cX12_sum 5 RX12 (some .int) := F
  refine g_eql (lv' := [(0, .ref (A 0 0)), (1, .ref m0)]) rfl ?_
  have hTt := hT
  obtain ⟨⟨hT0, hTN⟩, hRw, ⟨MD, hLs⟩, ⟨dz, hZ0, hZN, hZo, hZd⟩, ⟨hB, hBN⟩, ⟨hCu, hCN⟩, ⟨hHa, hHN⟩, hQu, hDj, hSg⟩ := hTt
  have hR0 : h (A 0 0) = some (.inr (3, [.ref (A 1 0), .int 8])) := hRw 0 (by decide)
  have hR1 : h (A 0 1) = some (.inr (3, [.ref (A 1 1), .int 12])) := hRw 1 (by decide)
  have hR2 : h (A 0 2) = some (.inr (3, [.ref (A 1 2), .int 6])) := hRw 2 (by decide)
  have hR3 : h (A 0 3) = some (.inr (3, [.ref (A 1 3), .int 12])) := hRw 3 (by decide)
  have hL0 : lsO K N h (A 1 0) (A 2 0) nb (A 3) (MD 0) := hLs 0 (by decide)
  have hL1 : lsO K N h (A 1 1) (A 2 1) nc (A 4) (MD 1) := hLs 1 (by decide)
  have hL2 : lsO K N h (A 1 2) (A 2 2) nh (A 5) (MD 2) := hLs 2 (by decide)
  have hL3 : lsO K N h (A 1 3) (A 2 3) nq (fun i => A 6 (o i)) (MD 3) := hLs 3 (by decide)
  have nb15 : nb ≤ 15 := hL0.2.2.1
  have nc15 : nc ≤ 15 := hL1.2.2.1
  have nh15 : nh ≤ 15 := hL2.2.2.1
  have nq15 : nq ≤ 15 := hL3.2.2.1
  refine g_iconst (v := 0) F dX12_sum_0 rfl ?_
  refine g_istore_n (lv' := [(2, .int 0), (0, .ref (A 0 0)), (1, .ref m0)]) F dX12_sum_1 rfl (by decide) rfl ?_
  refine g_aload_n F dX12_sum_2 1 rfl rfl ?_
  refine g_callF (x := ⟨"java/lang/Iterable", "iterator", "()Ljava/util/Iterator;"⟩) (b := 0) (bs := 0) F dX12_sum_3 mi_X3_iterator rfl q1223 14 rfl q744 q1062 gc_X3 hR0 ct_X3_iterator rfl rfl (nle rfl) (nle rfl) (nle rfl) (g_pO (fun v1 h_2 p3 => ?_)) g_pOX
  obtain ⟨q8, rfl, hn_e9, ho_e9, e9⟩ := p3
  have w10 := gE.no gE.rf hn_e9
  have d11 := gnew hn_e9 (hL0).1
  have d12 := gnew hn_e9 (hL1).1
  have d13 := gnew hn_e9 (hL2).1
  have d14 := gnew hn_e9 (hL3).1
  have x15 := gE.new1 gE.rf e9 hn_e9
  have f16 := gu_a e9
  refine g_eqs (st' := [.ref q8]) rfl ?_
  refine g_astore_n (lv' := [(3, .ref q8), (2, .int 0), (0, .ref (A 0 0)), (1, .ref m0)]) F dX12_sum_8 rfl (by decide) rfl ?_
  have lp9 : ∀ k, k ≤ nb → ∀ (h9 : AH), (gE h h9) → (h9 q8 = some (.inr (13, [.int (nI k), .ref (A 0 0)]))) → G K p e s m args below meth c (gRm 5 104 1 2) 5 (pO (fun v h9 => v = some (.int (mSum (fun k => f (14 + 4 * k)) nb)) ∧ gE h h9)) h9 (0) (0) 9 [(0, .ref (A 0 0)), (1, .ref m0), (2, .int (mSum (fun k => f (14 + 4 * k)) k)), (3, .ref q8)] [] := by
    refine gloop nb (fun k hk ih => ?_)
    intro h9 hE9 hs9
    refine g_aload_n F dX12_sum_9 3 rfl rfl ?_
    refine g_callF (x := ⟨"java/util/Iterator", "hasNext", "()Z"⟩) F dX12_sum_10 mi_X13_hasNext rfl q1225 0 rfl q372 q370 gc_X13 hs9 (ct_X13_hasNext (k := k) (hE9 _ _ hR0) (lsO.up hE9 hL0) hs9 (by omega)) rfl rfl (nle rfl) (nle rfl) (nle rfl) (g_pur ?_) g_purX
    refine g_if_eq (tgt := 40) F dX12_sum_15 (by decide) (fun c24 => ?_) (fun c24 => ?_)
    · have hkn : nb = k := by have : ¬ k < nb := (fun z => by simp [z] at c24); omega
      subst hkn
      refine g_iload_n F dX12_sum_40 2 rfl rfl ?_
      exact g_iret F dX12_sum_41 (⟨_, rfl, rfl, hE9⟩)
    · have hlt : k < nb := Classical.byContradiction (fun z => c24 (by simp [z]))
      refine g_aload_n F dX12_sum_18 3 rfl rfl ?_
      refine g_callF (x := ⟨"java/util/Iterator", "next", "()Ljava/lang/Object;"⟩) F dX12_sum_19 mi_X13_next rfl q1227 3 rfl q394 q392 gc_X13 hs9 (ct_X13_next (hE9 _ _ hR0) (lsO.up hE9 hL0) hs9 ho_e9 hlt (fun i hi => gNum_b (hE9 _ _ (hB _ hi)))) rfl rfl (nle rfl) (nle rfl) (nle rfl) (g_pur ?_) g_purX
      refine g_gen (fun h_32 e33 => ?_)
      have x34 := gE.wr1 hE9 e33 w10
      have f35 := gu_a e33
      have b36 : h (A 3 k) = some (.inr (9, [.int (nI k), .int (f (11 + 4 * k)), .int (mLoad f nc (nI k)), .int (mCnt f nc (nI k)), .int (f (12 + 4 * k)), .int (f (13 + 4 * k)), .int (f (14 + 4 * k))])) := hB _ hlt
      refine g_eqs (st' := [.ref (A 3 k)]) rfl ?_
      refine g_astore (lv' := [(4, .ref (A 3 k)), (0, .ref (A 0 0)), (1, .ref m0), (2, .int (mSum (fun k => f (14 + 4 * k)) k)), (3, .ref q8)]) F dX12_sum_24 (by decide) rfl ?_
      refine g_iload_n F dX12_sum_26 3 rfl rfl ?_
      refine g_aload_n F dX12_sum_27 2 rfl rfl ?_
      refine g_aload F dX12_sum_28 0 rfl ?_
      refine g_callF (x := ⟨"CurtainRiggers$Measure", "of", "(Ljava/lang/Object;)I"⟩) F dX12_sum_30 mi_X18_of rfl q1229 19 rfl q1235 q1233 gc_X18 (x34 _ _ hm) (ct_X18_of_3 (x34 _ _ hm) (x34 _ _ b36)) rfl rfl (nle rfl) (nle rfl) (nle rfl) (g_pur ?_) g_purX
      refine g_iadd F dX12_sum_35 ?_
      refine g_istore_n (lv' := [(2, .int ((mSum (fun k => f (14 + 4 * k)) k) + (f (14 + 4 * k)))), (4, .ref (A 3 k)), (0, .ref (A 0 0)), (1, .ref m0), (3, .ref q8)]) F dX12_sum_36 rfl (by decide) rfl ?_
      refine g_goto (tgt := 9) F dX12_sum_37 (by decide) ?_
      refine g_lv (lv' := [(0, .ref (A 0 0)), (1, .ref m0), (2, .int ((mSum (fun k => f (14 + 4 * k)) k) + (f (14 + 4 * k)))), (3, .ref q8)]) [2, 3, 0, 4] rfl ?_
      exact g_eql (lv' := [(0, .ref (A 0 0)), (1, .ref m0), (2, .int (mSum (fun k => f (14 + 4 * k)) (k + 1))), (3, .ref q8)]) (by simp only [mSum_s]) (ih hlt h_32 x34 f35)
  refine g_lv (lv' := [(0, .ref (A 0 0)), (1, .ref m0), (2, .int 0), (3, .ref q8)]) [2, 3, 1, 0] rfl ?_
  exact lp9 0 (Nat.zero_le _) h_2 x15 f16
set_option maxHeartbeats 4000000 in
set_option maxRecDepth 100000 in
theorem ct_X12_sum_4 {K : gK} {N : Nat → Prop} {h : AH} {A : Nat → Nat → Nat} {o : Nat → Nat} {f : Nat → Int32} {nb nc nh nq : Nat} (hT : th K N h A o f nb nc nh nq) {m0 t0 : Nat} {x : Int32} (hm : h m0 = some (.inr (16, [.int x, .ref t0]))) : gCt K yX12_sum w_X12_sum 5 104 1 2 h [.ref (A 0 2), .ref m0] (pO (fun v h9 => v = some (.int (mSum (fun k => if f (67 + 2 * k) = x then f (68 + 2 * k) else 0) nh)) ∧ gE h h9)) := by
  refine g_meth pf_X12_sum (nle rfl) (fun p e s m args below meth c F hnm htb => ?_)
  have F : gFix K p s m args meth c cX12_sum 5 RX12 (some .int) := F
  refine g_eql (lv' := [(0, .ref (A 0 2)), (1, .ref m0)]) rfl ?_
  have hTt := hT
  obtain ⟨⟨hT0, hTN⟩, hRw, ⟨MD, hLs⟩, ⟨dz, hZ0, hZN, hZo, hZd⟩, ⟨hB, hBN⟩, ⟨hCu, hCN⟩, ⟨hHa, hHN⟩, hQu, hDj, hSg⟩ := hTt
  have hR0 : h (A 0 0) = some (.inr (3, [.ref (A 1 0), .int 8])) := hRw 0 (by decide)
  have hR1 : h (A 0 1) = some (.inr (3, [.ref (A 1 1), .int 12])) := hRw 1 (by decide)
  have hR2 : h (A 0 2) = some (.inr (3, [.ref (A 1 2), .int 6])) := hRw 2 (by decide)
  have hR3 : h (A 0 3) = some (.inr (3, [.ref (A 1 3), .int 12])) := hRw 3 (by decide)
  have hL0 : lsO K N h (A 1 0) (A 2 0) nb (A 3) (MD 0) := hLs 0 (by decide)
  have hL1 : lsO K N h (A 1 1) (A 2 1) nc (A 4) (MD 1) := hLs 1 (by decide)
  have hL2 : lsO K N h (A 1 2) (A 2 2) nh (A 5) (MD 2) := hLs 2 (by decide)
  have hL3 : lsO K N h (A 1 3) (A 2 3) nq (fun i => A 6 (o i)) (MD 3) := hLs 3 (by decide)
  have nb15 : nb ≤ 15 := hL0.2.2.1
  have nc15 : nc ≤ 15 := hL1.2.2.1
  have nh15 : nh ≤ 15 := hL2.2.2.1
  have nq15 : nq ≤ 15 := hL3.2.2.1
  refine g_iconst (v := 0) F dX12_sum_0 rfl ?_
  refine g_istore_n (lv' := [(2, .int 0), (0, .ref (A 0 2)), (1, .ref m0)]) F dX12_sum_1 rfl (by decide) rfl ?_
  refine g_aload_n F dX12_sum_2 1 rfl rfl ?_
  refine g_callF (x := ⟨"java/lang/Iterable", "iterator", "()Ljava/util/Iterator;"⟩) (b := 0) (bs := 0) F dX12_sum_3 mi_X3_iterator rfl q1223 14 rfl q744 q1062 gc_X3 hR2 ct_X3_iterator rfl rfl (nle rfl) (nle rfl) (nle rfl) (g_pO (fun v1 h_2 p3 => ?_)) g_pOX
  obtain ⟨q8, rfl, hn_e9, ho_e9, e9⟩ := p3
  have w10 := gE.no gE.rf hn_e9
  have d11 := gnew hn_e9 (hL0).1
  have d12 := gnew hn_e9 (hL1).1
  have d13 := gnew hn_e9 (hL2).1
  have d14 := gnew hn_e9 (hL3).1
  have x15 := gE.new1 gE.rf e9 hn_e9
  have f16 := gu_a e9
  refine g_eqs (st' := [.ref q8]) rfl ?_
  refine g_astore_n (lv' := [(3, .ref q8), (2, .int 0), (0, .ref (A 0 2)), (1, .ref m0)]) F dX12_sum_8 rfl (by decide) rfl ?_
  have lp9 : ∀ k, k ≤ nh → ∀ (h9 : AH), (gE h h9) → (h9 q8 = some (.inr (13, [.int (nI k), .ref (A 0 2)]))) → G K p e s m args below meth c (gRm 5 104 1 2) 5 (pO (fun v h9 => v = some (.int (mSum (fun k => if f (67 + 2 * k) = x then f (68 + 2 * k) else 0) nh)) ∧ gE h h9)) h9 (0) (0) 9 [(0, .ref (A 0 2)), (1, .ref m0), (2, .int (mSum (fun k => if f (67 + 2 * k) = x then f (68 + 2 * k) else 0) k)), (3, .ref q8)] [] := by
    refine gloop nh (fun k hk ih => ?_)
    intro h9 hE9 hs9
    refine g_aload_n F dX12_sum_9 3 rfl rfl ?_
    refine g_callF (x := ⟨"java/util/Iterator", "hasNext", "()Z"⟩) F dX12_sum_10 mi_X13_hasNext rfl q1225 0 rfl q372 q370 gc_X13 hs9 (ct_X13_hasNext (k := k) (hE9 _ _ hR2) (lsO.up hE9 hL2) hs9 (by omega)) rfl rfl (nle rfl) (nle rfl) (nle rfl) (g_pur ?_) g_purX
    refine g_if_eq (tgt := 40) F dX12_sum_15 (by decide) (fun c24 => ?_) (fun c24 => ?_)
    · have hkn : nh = k := by have : ¬ k < nh := (fun z => by simp [z] at c24); omega
      subst hkn
      refine g_iload_n F dX12_sum_40 2 rfl rfl ?_
      exact g_iret F dX12_sum_41 (⟨_, rfl, rfl, hE9⟩)
    · have hlt : k < nh := Classical.byContradiction (fun z => c24 (by simp [z]))
      refine g_aload_n F dX12_sum_18 3 rfl rfl ?_
      refine g_callF (x := ⟨"java/util/Iterator", "next", "()Ljava/lang/Object;"⟩) F dX12_sum_19 mi_X13_next rfl q1227 3 rfl q394 q392 gc_X13 hs9 (ct_X13_next (hE9 _ _ hR2) (lsO.up hE9 hL2) hs9 ho_e9 hlt (fun i hi => gNum_h (hE9 _ _ (hHa _ hi)))) rfl rfl (nle rfl) (nle rfl) (nle rfl) (g_pur ?_) g_purX
      refine g_gen (fun h_32 e33 => ?_)
      have x34 := gE.wr1 hE9 e33 w10
      have f35 := gu_a e33
      have b36 : h (A 5 k) = some (.inr (11, [.int (nI k), .int (f (68 + 2 * k)), .int (f (67 + 2 * k))])) := hHa _ hlt
      refine g_eqs (st' := [.ref (A 5 k)]) rfl ?_
      refine g_astore (lv' := [(4, .ref (A 5 k)), (0, .ref (A 0 2)), (1, .ref m0), (2, .int (mSum (fun k => if f (67 + 2 * k) = x then f (68 + 2 * k) else 0) k)), (3, .ref q8)]) F dX12_sum_24 (by decide) rfl ?_
      refine g_iload_n F dX12_sum_26 3 rfl rfl ?_
      refine g_aload_n F dX12_sum_27 2 rfl rfl ?_
      refine g_aload F dX12_sum_28 0 rfl ?_
      refine g_callF (x := ⟨"CurtainRiggers$Measure", "of", "(Ljava/lang/Object;)I"⟩) F dX12_sum_30 mi_X11_of rfl q1229 20 rfl q1246 q1244 gc_X11 (x34 _ _ hm) (ct_X11_of (x34 _ _ hm) (x34 _ _ b36)) rfl rfl (nle rfl) (nle rfl) (nle rfl) (g_pur ?_) g_purX
      refine g_iadd F dX12_sum_35 ?_
      refine g_istore_n (lv' := [(2, .int ((mSum (fun k => if f (67 + 2 * k) = x then f (68 + 2 * k) else 0) k) + (if f (67 + 2 * k) = x then f (68 + 2 * k) else 0))), (4, .ref (A 5 k)), (0, .ref (A 0 2)), (1, .ref m0), (3, .ref q8)]) F dX12_sum_36 rfl (by decide) rfl ?_
      refine g_goto (tgt := 9) F dX12_sum_37 (by decide) ?_
      refine g_lv (lv' := [(0, .ref (A 0 2)), (1, .ref m0), (2, .int ((mSum (fun k => if f (67 + 2 * k) = x then f (68 + 2 * k) else 0) k) + (if f (67 + 2 * k) = x then f (68 + 2 * k) else 0))), (3, .ref q8)]) [2, 3, 0, 4] rfl ?_
      exact g_eql (lv' := [(0, .ref (A 0 2)), (1, .ref m0), (2, .int (mSum (fun k => if f (67 + 2 * k) = x then f (68 + 2 * k) else 0) (k + 1))), (3, .ref q8)]) (by simp only [mSum_s]) (ih hlt h_32 x34 f35)
  refine g_lv (lv' := [(0, .ref (A 0 2)), (1, .ref m0), (2, .int 0), (3, .ref q8)]) [2, 3, 1, 0] rfl ?_
  exact lp9 0 (Nat.zero_le _) h_2 x15 f16
set_option maxHeartbeats 4000000 in
set_option maxRecDepth 100000 in
theorem ct_X2_sum_0 {K : gK} {N : Nat → Prop} {h : AH} {A : Nat → Nat → Nat} {o : Nat → Nat} {f : Nat → Int32} {nb nc nh nq : Nat} (hT : th K N h A o f nb nc nh nq) : gCt K yX2_sum w_X2_sum 6 128 2 3 h [.ref (A 7 1), .int 0] (pO (fun v h9 => v = some (.int (mSum (fun k => f (11 + 4 * k)) nb)) ∧ gE h h9)) := by
  refine g_meth pf_X2_sum (nle rfl) (fun p e s m args below meth c F hnm htb => ?_)
  have F : gFix K p s m args meth c cX2_sum 2 RX2 (some .int) := F
  refine g_eql (lv' := [(0, .ref (A 7 1)), (1, .int 0)]) rfl ?_
  have hTt := hT
  obtain ⟨⟨hT0, hTN⟩, hRw, ⟨MD, hLs⟩, ⟨dz, hZ0, hZN, hZo, hZd⟩, ⟨hB, hBN⟩, ⟨hCu, hCN⟩, ⟨hHa, hHN⟩, hQu, hDj, hSg⟩ := hTt
  have hR0 : h (A 0 0) = some (.inr (3, [.ref (A 1 0), .int 8])) := hRw 0 (by decide)
  have hR1 : h (A 0 1) = some (.inr (3, [.ref (A 1 1), .int 12])) := hRw 1 (by decide)
  have hR2 : h (A 0 2) = some (.inr (3, [.ref (A 1 2), .int 6])) := hRw 2 (by decide)
  have hR3 : h (A 0 3) = some (.inr (3, [.ref (A 1 3), .int 12])) := hRw 3 (by decide)
  have hL0 : lsO K N h (A 1 0) (A 2 0) nb (A 3) (MD 0) := hLs 0 (by decide)
  have hL1 : lsO K N h (A 1 1) (A 2 1) nc (A 4) (MD 1) := hLs 1 (by decide)
  have hL2 : lsO K N h (A 1 2) (A 2 2) nh (A 5) (MD 2) := hLs 2 (by decide)
  have hL3 : lsO K N h (A 1 3) (A 2 3) nq (fun i => A 6 (o i)) (MD 3) := hLs 3 (by decide)
  have nb15 : nb ≤ 15 := hL0.2.2.1
  have nc15 : nc ≤ 15 := hL1.2.2.1
  have nh15 : nh ≤ 15 := hL2.2.2.1
  have nq15 : nq ≤ 15 := hL3.2.2.1
  refine g_aload_n F dX2_sum_0 0 rfl rfl ?_
  refine gf_X2_14_X2 (v := .ref (A 0 0)) F dX2_sum_1 hT0 rfl ?_
  refine g_new (fs := [.int 0]) (b := 1) (bs := 2) F in_X18 tyX18 tyX18_ok q1315 q1316 q114 gc_X18 nf_X18 dX2_sum_4 (fun q1 h_2 hn_e3 ho_e3 e3 => ?_)
  have w4 := gE.no gE.rf hn_e3
  have d5 := gnew hn_e3 (hL0).1
  have d6 := gnew hn_e3 (hL1).1
  have d7 := gnew hn_e3 (hL2).1
  have d8 := gnew hn_e3 (hL3).1
  have x9 := gE.new1 gE.rf e3 hn_e3
  have f10 := gu_a e3
  refine g_dup F dX2_sum_7 rfl ?_
  refine g_iload_n F dX2_sum_8 1 rfl rfl ?_
  refine g_callI F dX2_sum_9 mi_X18_init rfl q1317 q1318 (ct_X18_init f10 ho_e3) rfl rfl (nle rfl) (nle rfl) (nle rfl) (g_purv ?_) g_purvX
  refine g_gen (fun h_18 e19 => ?_)
  have x20 := gE.wr1 x9 e19 w4
  have e21 := (by rw [e19, e3, gu_gu] : h_18 = gu h q1 _)
  have f22 := gu_a e19
  refine g_callS (b := 0) (bs := 0) F dX2_sum_12 mi_X12_sum q1219 q1220 (ct_X12_sum_0 (th.up x20 hT) f22) rfl rfl (nle rfl) (nle rfl) (nle rfl) (g_pO (fun v23 h_24 p25 => ?_)) g_pOX
  obtain ⟨rfl, p25⟩ := p25
  have x30 := gE.tr x20 p25
  have f31 := p25 _ _ f22
  refine g_eqs (st' := [.int (mSum (fun k => f (11 + 4 * k)) nb)]) rfl ?_
  exact g_iret F dX2_sum_15 (⟨_, rfl, rfl, x30⟩)
set_option maxHeartbeats 4000000 in
set_option maxRecDepth 100000 in
theorem ct_X2_sum_1 {K : gK} {N : Nat → Prop} {h : AH} {A : Nat → Nat → Nat} {o : Nat → Nat} {f : Nat → Int32} {nb nc nh nq : Nat} (hT : th K N h A o f nb nc nh nq) : gCt K yX2_sum w_X2_sum 6 128 2 3 h [.ref (A 7 1), .int 1] (pO (fun v h9 => v = some (.int (mSum (fun k => mLoad f nc (nI k)) nb)) ∧ gE h h9)) := by
  refine g_meth pf_X2_sum (nle rfl) (fun p e s m args below meth c F hnm htb => ?_)
  have F : gFix K p s m args meth c cX2_sum 2 RX2 (some .int) := F
  refine g_eql (lv' := [(0, .ref (A 7 1)), (1, .int 1)]) rfl ?_
  have hTt := hT
  obtain ⟨⟨hT0, hTN⟩, hRw, ⟨MD, hLs⟩, ⟨dz, hZ0, hZN, hZo, hZd⟩, ⟨hB, hBN⟩, ⟨hCu, hCN⟩, ⟨hHa, hHN⟩, hQu, hDj, hSg⟩ := hTt
  have hR0 : h (A 0 0) = some (.inr (3, [.ref (A 1 0), .int 8])) := hRw 0 (by decide)
  have hR1 : h (A 0 1) = some (.inr (3, [.ref (A 1 1), .int 12])) := hRw 1 (by decide)
  have hR2 : h (A 0 2) = some (.inr (3, [.ref (A 1 2), .int 6])) := hRw 2 (by decide)
  have hR3 : h (A 0 3) = some (.inr (3, [.ref (A 1 3), .int 12])) := hRw 3 (by decide)
  have hL0 : lsO K N h (A 1 0) (A 2 0) nb (A 3) (MD 0) := hLs 0 (by decide)
  have hL1 : lsO K N h (A 1 1) (A 2 1) nc (A 4) (MD 1) := hLs 1 (by decide)
  have hL2 : lsO K N h (A 1 2) (A 2 2) nh (A 5) (MD 2) := hLs 2 (by decide)
  have hL3 : lsO K N h (A 1 3) (A 2 3) nq (fun i => A 6 (o i)) (MD 3) := hLs 3 (by decide)
  have nb15 : nb ≤ 15 := hL0.2.2.1
  have nc15 : nc ≤ 15 := hL1.2.2.1
  have nh15 : nh ≤ 15 := hL2.2.2.1
  have nq15 : nq ≤ 15 := hL3.2.2.1
  refine g_aload_n F dX2_sum_0 0 rfl rfl ?_
  refine gf_X2_14_X2 (v := .ref (A 0 0)) F dX2_sum_1 hT0 rfl ?_
  refine g_new (fs := [.int 0]) (b := 1) (bs := 2) F in_X18 tyX18 tyX18_ok q1315 q1316 q114 gc_X18 nf_X18 dX2_sum_4 (fun q1 h_2 hn_e3 ho_e3 e3 => ?_)
  have w4 := gE.no gE.rf hn_e3
  have d5 := gnew hn_e3 (hL0).1
  have d6 := gnew hn_e3 (hL1).1
  have d7 := gnew hn_e3 (hL2).1
  have d8 := gnew hn_e3 (hL3).1
  have x9 := gE.new1 gE.rf e3 hn_e3
  have f10 := gu_a e3
  refine g_dup F dX2_sum_7 rfl ?_
  refine g_iload_n F dX2_sum_8 1 rfl rfl ?_
  refine g_callI F dX2_sum_9 mi_X18_init rfl q1317 q1318 (ct_X18_init f10 ho_e3) rfl rfl (nle rfl) (nle rfl) (nle rfl) (g_purv ?_) g_purvX
  refine g_gen (fun h_18 e19 => ?_)
  have x20 := gE.wr1 x9 e19 w4
  have e21 := (by rw [e19, e3, gu_gu] : h_18 = gu h q1 _)
  have f22 := gu_a e19
  refine g_callS (b := 0) (bs := 0) F dX2_sum_12 mi_X12_sum q1219 q1220 (ct_X12_sum_1 (th.up x20 hT) f22) rfl rfl (nle rfl) (nle rfl) (nle rfl) (g_pO (fun v23 h_24 p25 => ?_)) g_pOX
  obtain ⟨rfl, p25⟩ := p25
  have x30 := gE.tr x20 p25
  have f31 := p25 _ _ f22
  refine g_eqs (st' := [.int (mSum (fun k => mLoad f nc (nI k)) nb)]) rfl ?_
  exact g_iret F dX2_sum_15 (⟨_, rfl, rfl, x30⟩)
set_option maxHeartbeats 4000000 in
set_option maxRecDepth 100000 in
theorem ct_X2_sum_2 {K : gK} {N : Nat → Prop} {h : AH} {A : Nat → Nat → Nat} {o : Nat → Nat} {f : Nat → Int32} {nb nc nh nq : Nat} (hT : th K N h A o f nb nc nh nq) : gCt K yX2_sum w_X2_sum 6 128 2 3 h [.ref (A 7 1), .int 2] (pO (fun v h9 => v = some (.int (mSum (fun k => f (12 + 4 * k)) nb)) ∧ gE h h9)) := by
  refine g_meth pf_X2_sum (nle rfl) (fun p e s m args below meth c F hnm htb => ?_)
  have F : gFix K p s m args meth c cX2_sum 2 RX2 (some .int) := F
  refine g_eql (lv' := [(0, .ref (A 7 1)), (1, .int 2)]) rfl ?_
  have hTt := hT
  obtain ⟨⟨hT0, hTN⟩, hRw, ⟨MD, hLs⟩, ⟨dz, hZ0, hZN, hZo, hZd⟩, ⟨hB, hBN⟩, ⟨hCu, hCN⟩, ⟨hHa, hHN⟩, hQu, hDj, hSg⟩ := hTt
  have hR0 : h (A 0 0) = some (.inr (3, [.ref (A 1 0), .int 8])) := hRw 0 (by decide)
  have hR1 : h (A 0 1) = some (.inr (3, [.ref (A 1 1), .int 12])) := hRw 1 (by decide)
  have hR2 : h (A 0 2) = some (.inr (3, [.ref (A 1 2), .int 6])) := hRw 2 (by decide)
  have hR3 : h (A 0 3) = some (.inr (3, [.ref (A 1 3), .int 12])) := hRw 3 (by decide)
  have hL0 : lsO K N h (A 1 0) (A 2 0) nb (A 3) (MD 0) := hLs 0 (by decide)
  have hL1 : lsO K N h (A 1 1) (A 2 1) nc (A 4) (MD 1) := hLs 1 (by decide)
  have hL2 : lsO K N h (A 1 2) (A 2 2) nh (A 5) (MD 2) := hLs 2 (by decide)
  have hL3 : lsO K N h (A 1 3) (A 2 3) nq (fun i => A 6 (o i)) (MD 3) := hLs 3 (by decide)
  have nb15 : nb ≤ 15 := hL0.2.2.1
  have nc15 : nc ≤ 15 := hL1.2.2.1
  have nh15 : nh ≤ 15 := hL2.2.2.1
  have nq15 : nq ≤ 15 := hL3.2.2.1
  refine g_aload_n F dX2_sum_0 0 rfl rfl ?_
  refine gf_X2_14_X2 (v := .ref (A 0 0)) F dX2_sum_1 hT0 rfl ?_
  refine g_new (fs := [.int 0]) (b := 1) (bs := 2) F in_X18 tyX18 tyX18_ok q1315 q1316 q114 gc_X18 nf_X18 dX2_sum_4 (fun q1 h_2 hn_e3 ho_e3 e3 => ?_)
  have w4 := gE.no gE.rf hn_e3
  have d5 := gnew hn_e3 (hL0).1
  have d6 := gnew hn_e3 (hL1).1
  have d7 := gnew hn_e3 (hL2).1
  have d8 := gnew hn_e3 (hL3).1
  have x9 := gE.new1 gE.rf e3 hn_e3
  have f10 := gu_a e3
  refine g_dup F dX2_sum_7 rfl ?_
  refine g_iload_n F dX2_sum_8 1 rfl rfl ?_
  refine g_callI F dX2_sum_9 mi_X18_init rfl q1317 q1318 (ct_X18_init f10 ho_e3) rfl rfl (nle rfl) (nle rfl) (nle rfl) (g_purv ?_) g_purvX
  refine g_gen (fun h_18 e19 => ?_)
  have x20 := gE.wr1 x9 e19 w4
  have e21 := (by rw [e19, e3, gu_gu] : h_18 = gu h q1 _)
  have f22 := gu_a e19
  refine g_callS (b := 0) (bs := 0) F dX2_sum_12 mi_X12_sum q1219 q1220 (ct_X12_sum_2 (th.up x20 hT) f22) rfl rfl (nle rfl) (nle rfl) (nle rfl) (g_pO (fun v23 h_24 p25 => ?_)) g_pOX
  obtain ⟨rfl, p25⟩ := p25
  have x30 := gE.tr x20 p25
  have f31 := p25 _ _ f22
  refine g_eqs (st' := [.int (mSum (fun k => f (12 + 4 * k)) nb)]) rfl ?_
  exact g_iret F dX2_sum_15 (⟨_, rfl, rfl, x30⟩)
set_option maxHeartbeats 4000000 in
set_option maxRecDepth 100000 in
theorem ct_X2_sum_3 {K : gK} {N : Nat → Prop} {h : AH} {A : Nat → Nat → Nat} {o : Nat → Nat} {f : Nat → Int32} {nb nc nh nq : Nat} (hT : th K N h A o f nb nc nh nq) : gCt K yX2_sum w_X2_sum 6 128 2 3 h [.ref (A 7 1), .int 3] (pO (fun v h9 => v = some (.int (mSum (fun k => f (14 + 4 * k)) nb)) ∧ gE h h9)) := by
  refine g_meth pf_X2_sum (nle rfl) (fun p e s m args below meth c F hnm htb => ?_)
  have F : gFix K p s m args meth c cX2_sum 2 RX2 (some .int) := F
  refine g_eql (lv' := [(0, .ref (A 7 1)), (1, .int 3)]) rfl ?_
  have hTt := hT
  obtain ⟨⟨hT0, hTN⟩, hRw, ⟨MD, hLs⟩, ⟨dz, hZ0, hZN, hZo, hZd⟩, ⟨hB, hBN⟩, ⟨hCu, hCN⟩, ⟨hHa, hHN⟩, hQu, hDj, hSg⟩ := hTt
  have hR0 : h (A 0 0) = some (.inr (3, [.ref (A 1 0), .int 8])) := hRw 0 (by decide)
  have hR1 : h (A 0 1) = some (.inr (3, [.ref (A 1 1), .int 12])) := hRw 1 (by decide)
  have hR2 : h (A 0 2) = some (.inr (3, [.ref (A 1 2), .int 6])) := hRw 2 (by decide)
  have hR3 : h (A 0 3) = some (.inr (3, [.ref (A 1 3), .int 12])) := hRw 3 (by decide)
  have hL0 : lsO K N h (A 1 0) (A 2 0) nb (A 3) (MD 0) := hLs 0 (by decide)
  have hL1 : lsO K N h (A 1 1) (A 2 1) nc (A 4) (MD 1) := hLs 1 (by decide)
  have hL2 : lsO K N h (A 1 2) (A 2 2) nh (A 5) (MD 2) := hLs 2 (by decide)
  have hL3 : lsO K N h (A 1 3) (A 2 3) nq (fun i => A 6 (o i)) (MD 3) := hLs 3 (by decide)
  have nb15 : nb ≤ 15 := hL0.2.2.1
  have nc15 : nc ≤ 15 := hL1.2.2.1
  have nh15 : nh ≤ 15 := hL2.2.2.1
  have nq15 : nq ≤ 15 := hL3.2.2.1
  refine g_aload_n F dX2_sum_0 0 rfl rfl ?_
  refine gf_X2_14_X2 (v := .ref (A 0 0)) F dX2_sum_1 hT0 rfl ?_
  refine g_new (fs := [.int 0]) (b := 1) (bs := 2) F in_X18 tyX18 tyX18_ok q1315 q1316 q114 gc_X18 nf_X18 dX2_sum_4 (fun q1 h_2 hn_e3 ho_e3 e3 => ?_)
  have w4 := gE.no gE.rf hn_e3
  have d5 := gnew hn_e3 (hL0).1
  have d6 := gnew hn_e3 (hL1).1
  have d7 := gnew hn_e3 (hL2).1
  have d8 := gnew hn_e3 (hL3).1
  have x9 := gE.new1 gE.rf e3 hn_e3
  have f10 := gu_a e3
  refine g_dup F dX2_sum_7 rfl ?_
  refine g_iload_n F dX2_sum_8 1 rfl rfl ?_
  refine g_callI F dX2_sum_9 mi_X18_init rfl q1317 q1318 (ct_X18_init f10 ho_e3) rfl rfl (nle rfl) (nle rfl) (nle rfl) (g_purv ?_) g_purvX
  refine g_gen (fun h_18 e19 => ?_)
  have x20 := gE.wr1 x9 e19 w4
  have e21 := (by rw [e19, e3, gu_gu] : h_18 = gu h q1 _)
  have f22 := gu_a e19
  refine g_callS (b := 0) (bs := 0) F dX2_sum_12 mi_X12_sum q1219 q1220 (ct_X12_sum_3 (th.up x20 hT) f22) rfl rfl (nle rfl) (nle rfl) (nle rfl) (g_pO (fun v23 h_24 p25 => ?_)) g_pOX
  obtain ⟨rfl, p25⟩ := p25
  have x30 := gE.tr x20 p25
  have f31 := p25 _ _ f22
  refine g_eqs (st' := [.int (mSum (fun k => f (14 + 4 * k)) nb)]) rfl ?_
  exact g_iret F dX2_sum_15 (⟨_, rfl, rfl, x30⟩)
set_option maxHeartbeats 4000000 in
set_option maxRecDepth 100000 in
theorem ct_X2_strength {K : gK} {N : Nat → Prop} {h : AH} {A : Nat → Nat → Nat} {o : Nat → Nat} {f : Nat → Int32} {nb nc nh nq : Nat} (hT : th K N h A o f nb nc nh nq) {x : Int32} : gCt K yX2_strength w_X2_strength 6 128 2 4 h [.ref (A 7 1), .int x] (pO (fun v h9 => v = some (.int (mStr f nh x)) ∧ gE h h9)) := by
  refine g_meth pf_X2_strength (nle rfl) (fun p e s m args below meth c F hnm htb => ?_)
  have F : gFix K p s m args meth c cX2_strength 2 RX2 (some .int) := F
  refine g_eql (lv' := [(0, .ref (A 7 1)), (1, .int x)]) rfl ?_
  have hTt := hT
  obtain ⟨⟨hT0, hTN⟩, hRw, ⟨MD, hLs⟩, ⟨dz, hZ0, hZN, hZo, hZd⟩, ⟨hB, hBN⟩, ⟨hCu, hCN⟩, ⟨hHa, hHN⟩, hQu, hDj, hSg⟩ := hTt
  have hR0 : h (A 0 0) = some (.inr (3, [.ref (A 1 0), .int 8])) := hRw 0 (by decide)
  have hR1 : h (A 0 1) = some (.inr (3, [.ref (A 1 1), .int 12])) := hRw 1 (by decide)
  have hR2 : h (A 0 2) = some (.inr (3, [.ref (A 1 2), .int 6])) := hRw 2 (by decide)
  have hR3 : h (A 0 3) = some (.inr (3, [.ref (A 1 3), .int 12])) := hRw 3 (by decide)
  have hL0 : lsO K N h (A 1 0) (A 2 0) nb (A 3) (MD 0) := hLs 0 (by decide)
  have hL1 : lsO K N h (A 1 1) (A 2 1) nc (A 4) (MD 1) := hLs 1 (by decide)
  have hL2 : lsO K N h (A 1 2) (A 2 2) nh (A 5) (MD 2) := hLs 2 (by decide)
  have hL3 : lsO K N h (A 1 3) (A 2 3) nq (fun i => A 6 (o i)) (MD 3) := hLs 3 (by decide)
  have nb15 : nb ≤ 15 := hL0.2.2.1
  have nc15 : nc ≤ 15 := hL1.2.2.1
  have nh15 : nh ≤ 15 := hL2.2.2.1
  have nq15 : nq ≤ 15 := hL3.2.2.1
  refine g_aload_n F dX2_strength_0 0 rfl rfl ?_
  refine gf_X2_23_X2 (v := .ref (A 0 2)) F dX2_strength_1 hT0 rfl ?_
  refine g_new (fs := [.int 0, .null]) (b := 1) (bs := 2) F in_X11 tyX11 tyX11_ok q1206 q1207 q103 gc_X11 nf_X11 dX2_strength_4 (fun q1 h_2 hn_e3 ho_e3 e3 => ?_)
  have w4 := gE.no gE.rf hn_e3
  have d5 := gnew hn_e3 (hL0).1
  have d6 := gnew hn_e3 (hL1).1
  have d7 := gnew hn_e3 (hL2).1
  have d8 := gnew hn_e3 (hL3).1
  have x9 := gE.new1 gE.rf e3 hn_e3
  have f10 := gu_a e3
  refine g_dup F dX2_strength_7 rfl ?_
  refine g_aload_n F dX2_strength_8 0 rfl rfl ?_
  refine g_iload_n F dX2_strength_9 1 rfl rfl ?_
  refine g_callI F dX2_strength_10 mi_X11_init rfl q1208 q1209 (ct_X11_init f10 ho_e3) rfl rfl (nle rfl) (nle rfl) (nle rfl) (g_purv ?_) g_purvX
  refine g_gen (fun h_18 e19 => ?_)
  have x20 := gE.wr1 x9 e19 w4
  have e21 := (by rw [e19, e3, gu_gu] : h_18 = gu h q1 _)
  have f22 := gu_a e19
  refine g_callS (b := 0) (bs := 0) F dX2_strength_13 mi_X12_sum q1219 q1220 (ct_X12_sum_4 (th.up x20 hT) f22) rfl rfl (nle rfl) (nle rfl) (nle rfl) (g_pO (fun v23 h_24 p25 => ?_)) g_pOX
  obtain ⟨rfl, p25⟩ := p25
  have x30 := gE.tr x20 p25
  have f31 := p25 _ _ f22
  refine g_eqs (st' := [.int (mSum (fun k => if f (67 + 2 * k) = x then f (68 + 2 * k) else 0) nh)]) rfl ?_
  exact g_iret F dX2_strength_16 (⟨_, rfl, rfl, x30⟩)
set_option maxHeartbeats 4000000 in
set_option maxRecDepth 100000 in
theorem ct_X2_openDoors {K : gK} {N : Nat → Prop} {h : AH} {A : Nat → Nat → Nat} {o : Nat → Nat} {f : Nat → Int32} {nb nc nh nq : Nat} (hT : th K N h A o f nb nc nh nq) (iDo : iD f) : gCt K yX2_openDoors w_X2_openDoors 0 0 0 0 h [.ref (A 7 1)] (pR (.int (mDoors f)) h) := by
  refine g_meth pf_X2_openDoors (nle rfl) (fun p e s m args below meth c F hnm htb => ?_)
  have F : gFix K p s m args meth c cX2_openDoors 6 RX2 (some .int) := F
  refine g_eql (lv' := [(0, .ref (A 7 1))]) rfl ?_
  have hTt := hT
  obtain ⟨⟨hT0, hTN⟩, hRw, ⟨MD, hLs⟩, ⟨dz, hZ0, hZN, hZo, hZd⟩, ⟨hB, hBN⟩, ⟨hCu, hCN⟩, ⟨hHa, hHN⟩, hQu, hDj, hSg⟩ := hTt
  have hR0 : h (A 0 0) = some (.inr (3, [.ref (A 1 0), .int 8])) := hRw 0 (by decide)
  have hR1 : h (A 0 1) = some (.inr (3, [.ref (A 1 1), .int 12])) := hRw 1 (by decide)
  have hR2 : h (A 0 2) = some (.inr (3, [.ref (A 1 2), .int 6])) := hRw 2 (by decide)
  have hR3 : h (A 0 3) = some (.inr (3, [.ref (A 1 3), .int 12])) := hRw 3 (by decide)
  have hL0 : lsO K N h (A 1 0) (A 2 0) nb (A 3) (MD 0) := hLs 0 (by decide)
  have hL1 : lsO K N h (A 1 1) (A 2 1) nc (A 4) (MD 1) := hLs 1 (by decide)
  have hL2 : lsO K N h (A 1 2) (A 2 2) nh (A 5) (MD 2) := hLs 2 (by decide)
  have hL3 : lsO K N h (A 1 3) (A 2 3) nq (fun i => A 6 (o i)) (MD 3) := hLs 3 (by decide)
  have nb15 : nb ≤ 15 := hL0.2.2.1
  have nc15 : nc ≤ 15 := hL1.2.2.1
  have nh15 : nh ≤ 15 := hL2.2.2.1
  have nq15 : nq ≤ 15 := hL3.2.2.1
  refine g_iconst (v := 0) F dX2_openDoors_0 rfl ?_
  refine g_istore_n (lv' := [(1, .int 0), (0, .ref (A 7 1))]) F dX2_openDoors_1 rfl (by decide) rfl ?_
  refine g_aload_n F dX2_openDoors_2 1 rfl rfl ?_
  refine gf_X2_29_X2 (v := .ref (A 7 0)) F dX2_openDoors_3 hT0 rfl ?_
  refine g_astore_n (lv' := [(2, .ref (A 7 0)), (1, .int 0), (0, .ref (A 7 1))]) F dX2_openDoors_6 rfl (by decide) rfl ?_
  refine g_aload_n F dX2_openDoors_7 0 rfl rfl ?_
  refine g_alen F (by decide) hZ0 dX2_openDoors_8 ?_
  refine g_istore_n (lv' := [(3, .int (nI 4)), (2, .ref (A 7 0)), (1, .int 0), (0, .ref (A 7 1))]) F dX2_openDoors_9 rfl (by decide) rfl ?_
  refine g_iconst (v := 0) F dX2_openDoors_10 rfl ?_
  refine g_istore (lv' := [(4, .int 0), (3, .int (nI 4)), (2, .ref (A 7 0)), (1, .int 0), (0, .ref (A 7 1))]) F dX2_openDoors_11 (by decide) rfl ?_
  have lp13 : ∀ k, k ≤ 4 → G K p e s m args below meth c (gRm 0 0 0 0) 6 (pR (.int (mDoors f)) h) h (0) (0) 13 [(0, .ref (A 7 1)), (1, .int (mSum (fun k => f (79 + k)) k)), (2, .ref (A 7 0)), (3, .int (nI 4)), (4, .int (nI k))] [] := by
    refine gloop 4 (fun k hk ih => ?_)
    refine g_iload F dX2_openDoors_13 4 rfl ?_
    refine g_iload_n F dX2_openDoors_15 3 rfl rfl ?_
    refine g_icmp_ge (tgt := 44) F dX2_openDoors_16 (by decide) (fun c1 => ?_) (fun c1 => ?_)
    · have hkn : 4 = k := by have := (nI_leI (a := 4) (b := k) (by decide) (by omega)).mp c1; omega
      subst hkn
      refine g_iload_n F dX2_openDoors_44 1 rfl rfl ?_
      exact g_iret F dX2_openDoors_45 (⟨rfl, rfl⟩)
    · have hlt : k < 4 := Nat.not_le.mp (fun z => c1 (nI_le z (by omega)))
      refine g_aload_n F dX2_openDoors_19 2 rfl rfl ?_
      refine g_iload F dX2_openDoors_20 4 rfl ?_
      refine g_zaldN (i := k) F hZ0 rfl (show k = k by omega) (by omega) (by decide) dX2_openDoors_22 ?_
      refine g_istore (lv' := [(5, .int (dz k)), (0, .ref (A 7 1)), (1, .int (mSum (fun k => f (79 + k)) k)), (2, .ref (A 7 0)), (3, .int (nI 4)), (4, .int (nI k))]) F dX2_openDoors_23 (by decide) rfl ?_
      refine g_iload_n F dX2_openDoors_25 2 rfl rfl ?_
      refine g_iload F dX2_openDoors_26 0 rfl ?_
      refine g_if_eq (tgt := 35) F dX2_openDoors_28 (by decide) (fun c2 => ?_) (fun c2 => ?_)
      · have d1 : f (79 + k) = 0 := by rw [← hZd k (by omega)]; exact c2
        refine g_iconst (v := 0) F dX2_openDoors_35 rfl ?_
        refine g_iadd F dX2_openDoors_36 ?_
        refine g_istore_n (lv' := [(1, .int ((mSum (fun k => f (79 + k)) k) + 0)), (5, .int (dz k)), (0, .ref (A 7 1)), (2, .ref (A 7 0)), (3, .int (nI 4)), (4, .int (nI k))]) F dX2_openDoors_37 rfl (by decide) rfl ?_
        refine g_iinc (lv' := [(4, .int ((nI k) + 1)), (1, .int ((mSum (fun k => f (79 + k)) k) + 0)), (5, .int (dz k)), (0, .ref (A 7 1)), (2, .ref (A 7 0)), (3, .int (nI 4))]) (v := (nI k) + 1) F dX2_openDoors_38 (k := 5) rfl rfl (by decide) rfl ?_
        refine g_goto (tgt := 13) F dX2_openDoors_41 (by decide) ?_
        refine g_lv (lv' := [(0, .ref (A 7 1)), (1, .int ((mSum (fun k => f (79 + k)) k) + 0)), (2, .ref (A 7 0)), (3, .int (nI 4)), (4, .int ((nI k) + 1))]) [3, 1, 4, 5, 0] rfl ?_
        exact g_eql (lv' := [(0, .ref (A 7 1)), (1, .int (mSum (fun k => f (79 + k)) (k + 1))), (2, .ref (A 7 0)), (3, .int (nI 4)), (4, .int (nI (k + 1)))]) (by simp only [mSum_s, d1, nI_1]) (ih hlt )
      · have d1 : f (79 + k) = 1 := by have d2 := (hZd k (by omega)); rw [d2] at c2; obtain ⟨j, hj, ej⟩ := iDo k (by omega); rcases (show j = 0 ∨ j = 1 by omega) with rfl | rfl; exact absurd ej c2; exact ej
        refine g_iconst (v := 1) F dX2_openDoors_31 rfl ?_
        refine g_goto (tgt := 36) F dX2_openDoors_32 (by decide) ?_
        refine g_iadd F dX2_openDoors_36 ?_
        refine g_istore_n (lv' := [(1, .int ((mSum (fun k => f (79 + k)) k) + 1)), (5, .int (dz k)), (0, .ref (A 7 1)), (2, .ref (A 7 0)), (3, .int (nI 4)), (4, .int (nI k))]) F dX2_openDoors_37 rfl (by decide) rfl ?_
        refine g_iinc (lv' := [(4, .int ((nI k) + 1)), (1, .int ((mSum (fun k => f (79 + k)) k) + 1)), (5, .int (dz k)), (0, .ref (A 7 1)), (2, .ref (A 7 0)), (3, .int (nI 4))]) (v := (nI k) + 1) F dX2_openDoors_38 (k := 5) rfl rfl (by decide) rfl ?_
        refine g_goto (tgt := 13) F dX2_openDoors_41 (by decide) ?_
        refine g_lv (lv' := [(0, .ref (A 7 1)), (1, .int ((mSum (fun k => f (79 + k)) k) + 1)), (2, .ref (A 7 0)), (3, .int (nI 4)), (4, .int ((nI k) + 1))]) [3, 1, 4, 5, 0] rfl ?_
        exact g_eql (lv' := [(0, .ref (A 7 1)), (1, .int (mSum (fun k => f (79 + k)) (k + 1))), (2, .ref (A 7 0)), (3, .int (nI 4)), (4, .int (nI (k + 1)))]) (by simp only [mSum_s, d1, nI_1]) (ih hlt )
  refine g_lv (lv' := [(0, .ref (A 7 1)), (1, .int 0), (2, .ref (A 7 0)), (3, .int (nI 4)), (4, .int 0)]) [4, 3, 2, 1, 0] rfl ?_
  exact lp13 0 (Nat.zero_le _) 
set_option maxHeartbeats 4000000 in
set_option maxRecDepth 100000 in
theorem ct_X2_noise {K : gK} {N : Nat → Prop} {h : AH} {A : Nat → Nat → Nat} {o : Nat → Nat} {f : Nat → Int32} {nb nc nh nq : Nat} (hT : th K N h A o f nb nc nh nq) {i : Nat} {y : Int32} (hi : i < nb) (iDo : iD f) : gCt K yX2_noise w_X2_noise 1 25 0 0 h [.ref (A 7 1), .ref (A 3 i), .int y] (pR (.int (mLoud f i y)) h) := by
  refine g_meth pf_X2_noise (nle rfl) (fun p e s m args below meth c F hnm htb => ?_)
  have F : gFix K p s m args meth c cX2_noise 3 RX2 (some .int) := F
  refine g_eql (lv' := [(0, .ref (A 7 1)), (1, .ref (A 3 i)), (2, .int y)]) rfl ?_
  have hTt := hT
  obtain ⟨⟨hT0, hTN⟩, hRw, ⟨MD, hLs⟩, ⟨dz, hZ0, hZN, hZo, hZd⟩, ⟨hB, hBN⟩, ⟨hCu, hCN⟩, ⟨hHa, hHN⟩, hQu, hDj, hSg⟩ := hTt
  have hR0 : h (A 0 0) = some (.inr (3, [.ref (A 1 0), .int 8])) := hRw 0 (by decide)
  have hR1 : h (A 0 1) = some (.inr (3, [.ref (A 1 1), .int 12])) := hRw 1 (by decide)
  have hR2 : h (A 0 2) = some (.inr (3, [.ref (A 1 2), .int 6])) := hRw 2 (by decide)
  have hR3 : h (A 0 3) = some (.inr (3, [.ref (A 1 3), .int 12])) := hRw 3 (by decide)
  have hL0 : lsO K N h (A 1 0) (A 2 0) nb (A 3) (MD 0) := hLs 0 (by decide)
  have hL1 : lsO K N h (A 1 1) (A 2 1) nc (A 4) (MD 1) := hLs 1 (by decide)
  have hL2 : lsO K N h (A 1 2) (A 2 2) nh (A 5) (MD 2) := hLs 2 (by decide)
  have hL3 : lsO K N h (A 1 3) (A 2 3) nq (fun i => A 6 (o i)) (MD 3) := hLs 3 (by decide)
  have nb15 : nb ≤ 15 := hL0.2.2.1
  have nc15 : nc ≤ 15 := hL1.2.2.1
  have nh15 : nh ≤ 15 := hL2.2.2.1
  have nq15 : nq ≤ 15 := hL3.2.2.1
  have b1 : h (A 3 i) = some (.inr (9, [.int (nI i), .int (f (11 + 4 * i)), .int (mLoad f nc (nI i)), .int (mCnt f nc (nI i)), .int (f (12 + 4 * i)), .int (f (13 + 4 * i)), .int (f (14 + 4 * i))])) := hB _ hi
  refine g_iload_n F dX2_noise_0 2 rfl rfl ?_
  refine g_aload_n F dX2_noise_1 1 rfl rfl ?_
  refine gf_X2_181_X5 (v := .int (f (11 + 4 * i))) F dX2_noise_2 b1 rfl ?_
  refine g_isub F dX2_noise_5 ?_
  refine g_callS F dX2_noise_6 mi_J16_abs q1258 q1130 ct_J16_abs rfl rfl (nle rfl) (nle rfl) (nle rfl) (g_pur ?_) g_purX
  refine g_iconst (v := 4) F dX2_noise_9 rfl ?_
  refine g_idiv F dX2_noise_10 (by decide) ?_
  refine g_aload_n F dX2_noise_11 1 rfl rfl ?_
  refine gf_X2_101_X5 (v := .int (f (13 + 4 * i))) F dX2_noise_12 b1 rfl ?_
  refine g_iconst (v := 3) F dX2_noise_15 rfl ?_
  refine g_idiv F dX2_noise_16 (by decide) ?_
  refine g_iadd F dX2_noise_17 ?_
  refine g_iconst (v := 2) F dX2_noise_18 rfl ?_
  refine g_aload_n F dX2_noise_19 0 rfl rfl ?_
  refine g_callV F dX2_noise_20 mi_X2_openDoors q1259 q1260 q1261 gc_X2 hT0 (ct_X2_openDoors hT iDo) rfl rfl (nle rfl) (nle rfl) (nle rfl) (g_pur ?_) g_purX
  refine g_imul F dX2_noise_23 ?_
  refine g_iadd F dX2_noise_24 ?_
  exact g_iret F dX2_noise_25 (⟨rfl, rfl⟩)
