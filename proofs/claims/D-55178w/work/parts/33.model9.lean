/-! ===== THE REFERENCE: line, cueLine, character (written by tools/model9.py) ===== -/
set_option maxHeartbeats 4000000 in
set_option maxRecDepth 100000 in
theorem ct_X4_line0 {K : gK} {h : AH} {o : Nat} {L : Nat → Nat} {iv : Nat → Int32} {av : Nat → Nat → Int32} (hN : mN K o L) {x : Int32} {nb : Nat} (h1 : av 0 1 = nI nb) (hx : mIn x 0 (nI nb - 1) = 0) : gCt K yX4_line w_X4_line 2 43 0 0 (mO K h o L iv av) [.ref o, .int x] (pR (.int 0) (mO K h o L (upd iv 7 1) av)) := by
  refine g_meth pf_X4_line (nle rfl) (fun p e s m args below meth c F hnm htb => ?_)
  have F : gFix K p s m args meth c cX4_line 3 RX4 (some .int) := F
  refine g_eql (lv' := [(0, .ref o), (1, .int x)]) rfl ?_
  refine g_aload_n F dX4_line_0 0 rfl rfl ?_
  refine g_aload_n F dX4_line_1 0 rfl rfl ?_
  refine g_iload_n F dX4_line_2 1 rfl rfl ?_
  refine g_callV F dX4_line_3 mi_X4_isBar q2369 q2371 qs29 gc_X4 mO_o (ct_X4_isBar hN h1) rfl rfl (nle rfl) (nle rfl) (nle rfl) (g_pur ?_) g_purX
  refine g_if_eq (tgt := 13) F dX4_line_6 (by decide) (fun c1 => ?_) (fun c1 => absurd hx c1)
  refine g_iconst (v := 1) F dX4_line_13 rfl ?_
  refine gp_X4_69_X4 F dX4_line_14 mO_o hN.1 (nle rfl) rfl (fun h_e2 e2 => ?_)
  refine g_mput (iv2 := upd iv 7 1) e2 rfl ?_
  refine g_aload_n F dX4_line_17 0 rfl rfl ?_
  refine gf_X4_69_X4 (v := .int 1) F dX4_line_18 mO_o rfl ?_
  refine g_if_le (tgt := 26) F dX4_line_21 (by decide) (fun c3 => absurd c3 (by decide)) (fun c3 => ?_)
  refine g_iconst (v := 0) F dX4_line_24 rfl ?_
  exact g_iret F dX4_line_25 (⟨rfl, rfl⟩)
set_option maxHeartbeats 4000000 in
set_option maxRecDepth 100000 in
theorem ct_X4_line {K : gK} {h : AH} {o : Nat} {L : Nat → Nat} {iv : Nat → Int32} {av : Nat → Nat → Int32} (hN : mN K o L) {nb nc nh i ht ld w : Nat} (hS : gKS K) (h1 : av 0 1 = nI nb) (hb : nb ≤ 8) (h2 : av 0 2 = nI nc) (hc : nc ≤ 12) (h3 : av 0 3 = nI nh) (hh : nh ≤ 6) (hi : i < nb) (hht : av 0 (11 + 4 * i) = nI ht) (hhb : ht < 100) (hld : mLoad (av 0) nc (nI i) = nI ld) (hlb : ld < 2000) (hw : av 0 (12 + 4 * i) = nI w) (hwb : w < 100) : gCt K yX4_line w_X4_line 5 107 0 0 (mO K h o L iv av) [.ref o, .int (nI i)] (pR (.int (nI (qLine (av 0) nc nh i ht ld w).length)) (mO K h o L (upd (upd iv 7 0) 11 (nI (qLine (av 0) nc nh i ht ld w).length)) (mu av 10 (qPut (av 10) 0 (qLine (av 0) nc nh i ht ld w))))) := by
  refine g_meth pf_X4_line (nle rfl) (fun p e s m args below meth c F hnm htb => ?_)
  have F : gFix K p s m args meth c cX4_line 3 RX4 (some .int) := F
  refine g_eql (lv' := [(0, .ref o), (1, .int (nI i))]) rfl ?_
  have hd1 := qDg_n (x := ht)
  have hd2 := qDg_n (x := ld)
  have hd3 := qDg_n (x := 10 * w)
  refine g_aload_n F dX4_line_0 0 rfl rfl ?_
  refine g_aload_n F dX4_line_1 0 rfl rfl ?_
  refine g_iload_n F dX4_line_2 1 rfl rfl ?_
  refine g_callV F dX4_line_3 mi_X4_isBar q2369 q2371 qs29 gc_X4 mO_o (ct_X4_isBar hN h1) rfl rfl (nle rfl) (nle rfl) (nle rfl) (g_pur ?_) g_purX
  refine g_if_eq (tgt := 13) F dX4_line_6 (by decide) (fun c1 => absurd c1 (by rw [xAt_n (by omega) hi]; decide)) (fun c1 => ?_)
  refine g_iconst (v := 0) F dX4_line_9 rfl ?_
  refine g_goto (tgt := 14) F dX4_line_10 (by decide) ?_
  refine gp_X4_69_X4 F dX4_line_14 mO_o hN.1 (nle rfl) rfl (fun h_e2 e2 => ?_)
  refine g_mput (iv2 := upd iv 7 0) e2 rfl ?_
  refine g_aload_n F dX4_line_17 0 rfl rfl ?_
  refine gf_X4_69_X4 (v := .int 0) F dX4_line_18 mO_o rfl ?_
  refine g_if_le (tgt := 26) F dX4_line_21 (by decide) (fun c3 => ?_) (fun c3 => absurd c3 (by decide))
  refine g_aload_n F dX4_line_26 0 rfl rfl ?_
  refine g_iconst (v := 0) F dX4_line_27 rfl ?_
  refine gp_X4_209_X4 F dX4_line_28 mO_o hN.1 (nle rfl) rfl (fun h_e4 e4 => ?_)
  refine g_mput (iv2 := upd (upd iv 7 0) 11 0) e4 rfl ?_
  refine g_eqh (h' := (mO K h o L (upd (upd iv 7 0) 11 (nI (qE).length)) (mu av 10 (qPut (av 10) 0 (qE))))) lnH0 ?_
  refine g_aload_n F dX4_line_31 0 rfl rfl ?_
  refine g_aload_n F dX4_line_32 0 rfl rfl ?_
  refine g_iload_n F dX4_line_33 1 rfl rfl ?_
  refine g_iconst (v := 0) F dX4_line_34 rfl ?_
  refine g_callV F dX4_line_35 mi_X4_bar1 q2373 q2375 qs30 gc_X4 mO_o (ct_X4_bar1 hN (i := 11 + 4 * i) (nto (nadd (nadd (rfl : (11 : Int32) = nI 11) (nmul (rfl : (4 : Int32) = nI 4) rfl)) (rfl : (0 : Int32) = nI 0)) (show ((11 + (4 * i)) + 0) = 11 + 4 * i by omega)) (by omega)) rfl rfl (nle rfl) (nle rfl) (nle rfl) (g_pur ?_) g_purX
  refine g_eqs (st' := [.int (nI ht), .ref o]) (congrArg (fun z => [Value.int z, .ref o]) hht) ?_
  have t5 := (ct_X4_saysNumber4 (h := h) (x := ht) (n := (qE).length) (iv := upd (upd iv 7 0) 11 (nI (qE).length)) (av := mu av 10 (qPut (av 10) 0 (qE))) hN pk_us (by omega) (by simp only [qE, qLn0, List.length_append, List.length_cons, List.length_nil]; omega))
  refine g_callV F dX4_line_38 mi_X4_saysNumber q2580 q2582 qs57 gc_X4 mO_o t5 rfl rfl (nle rfl) (nle rfl) (nle rfl) (g_purv ?_) g_purvX
  refine g_eqh (h' := (mO K h o L (upd (upd iv 7 0) 11 (nI (qE ++ qDg ht).length)) (mu av 10 (qPut (av 10) 0 (qE ++ qDg ht))))) lnH ?_
  refine g_aload_n F dX4_line_41 0 rfl rfl ?_
  refine g_ldcS (i := 61) (id := 24) F rfl dX4_line_42 ?_
  have t6 := (ct_X4_says (l := [109, 32]) (n := (qE ++ qDg ht).length) (iv := upd (upd iv 7 0) 11 (nI (qE ++ qDg ht).length)) (av := mu av 10 (qPut (av 10) 0 (qE ++ qDg ht))) (h := h) hN (hS 24 (by decide)) pk_us (by simp only [qE, qLn0, List.length_append, List.length_cons, List.length_nil]; omega) (by decide))
  refine g_callV F dX4_line_44 mi_X4_says q2585 q2587 qs58 gc_X4 mO_o t6 rfl rfl (nle rfl) (nle rfl) (nle rfl) (g_purv ?_) g_purvX
  refine g_eqh (h' := (mO K h o L (upd (upd iv 7 0) 11 (nI (qE ++ qDg ht ++ [109, 32]).length)) (mu av 10 (qPut (av 10) 0 (qE ++ qDg ht ++ [109, 32]))))) lnH ?_
  refine g_aload_n F dX4_line_47 0 rfl rfl ?_
  refine g_aload_n F dX4_line_48 0 rfl rfl ?_
  refine g_iload_n F dX4_line_49 1 rfl rfl ?_
  refine g_callV F dX4_line_50 mi_X4_load q2377 q2379 qs31 gc_X4 mO_o (ct_X4_load (av := mu av 10 (qPut (av 10) 0 (qE ++ qDg ht ++ [109, 32]))) hN h2 hc) rfl rfl (nle rfl) (nle rfl) (nle rfl) (g_pur ?_) g_purX
  refine g_eqs (st' := [.int (nI ld), .ref o]) (congrArg (fun z => [Value.int z, .ref o]) hld) ?_
  have t7 := (ct_X4_saysNumber4 (h := h) (x := ld) (n := (qE ++ qDg ht ++ [109, 32]).length) (iv := upd (upd iv 7 0) 11 (nI (qE ++ qDg ht ++ [109, 32]).length)) (av := mu av 10 (qPut (av 10) 0 (qE ++ qDg ht ++ [109, 32]))) hN pk_us (by omega) (by simp only [qE, qLn0, List.length_append, List.length_cons, List.length_nil]; omega))
  refine g_callV F dX4_line_53 mi_X4_saysNumber q2580 q2582 qs57 gc_X4 mO_o t7 rfl rfl (nle rfl) (nle rfl) (nle rfl) (g_purv ?_) g_purvX
  refine g_eqh (h' := (mO K h o L (upd (upd iv 7 0) 11 (nI (qE ++ qDg ht ++ [109, 32] ++ qDg ld).length)) (mu av 10 (qPut (av 10) 0 (qE ++ qDg ht ++ [109, 32] ++ qDg ld))))) lnH ?_
  refine g_aload_n F dX4_line_56 0 rfl rfl ?_
  refine g_ldcS (i := 62) (id := 29) F rfl dX4_line_57 ?_
  have t8 := (ct_X4_says (l := [47]) (n := (qE ++ qDg ht ++ [109, 32] ++ qDg ld).length) (iv := upd (upd iv 7 0) 11 (nI (qE ++ qDg ht ++ [109, 32] ++ qDg ld).length)) (av := mu av 10 (qPut (av 10) 0 (qE ++ qDg ht ++ [109, 32] ++ qDg ld))) (h := h) hN (hS 29 (by decide)) pk_us (by simp only [qE, qLn0, List.length_append, List.length_cons, List.length_nil]; omega) (by decide))
  refine g_callV F dX4_line_59 mi_X4_says q2585 q2587 qs58 gc_X4 mO_o t8 rfl rfl (nle rfl) (nle rfl) (nle rfl) (g_purv ?_) g_purvX
  refine g_eqh (h' := (mO K h o L (upd (upd iv 7 0) 11 (nI (qE ++ qDg ht ++ [109, 32] ++ qDg ld ++ [47]).length)) (mu av 10 (qPut (av 10) 0 (qE ++ qDg ht ++ [109, 32] ++ qDg ld ++ [47]))))) lnH ?_
  refine g_aload_n F dX4_line_62 0 rfl rfl ?_
  refine g_bipush (v := 10) F dX4_line_63 rfl ?_
  refine g_aload_n F dX4_line_65 0 rfl rfl ?_
  refine g_iload_n F dX4_line_66 1 rfl rfl ?_
  refine g_iconst (v := 1) F dX4_line_67 rfl ?_
  refine g_callV F dX4_line_68 mi_X4_bar1 q2373 q2375 qs30 gc_X4 mO_o (ct_X4_bar1 hN (i := 12 + 4 * i) (nto (nadd (nadd (rfl : (11 : Int32) = nI 11) (nmul (rfl : (4 : Int32) = nI 4) rfl)) (rfl : (1 : Int32) = nI 1)) (show ((11 + (4 * i)) + 1) = 12 + 4 * i by omega)) (by omega)) rfl rfl (nle rfl) (nle rfl) (nle rfl) (g_pur ?_) g_purX
  refine g_imul F dX4_line_71 ?_
  refine g_eqs (st' := [.int (nI (10 * w)), .ref o]) (congrArg (fun z => [Value.int z, .ref o]) (show (10 : Int32) * av 0 (12 + 4 * i) = nI (10 * w) by rw [hw, show (10 : Int32) = nI 10 from rfl, pk_mul])) ?_
  have t9 := (ct_X4_saysNumber4 (h := h) (x := 10 * w) (n := (qE ++ qDg ht ++ [109, 32] ++ qDg ld ++ [47]).length) (iv := upd (upd iv 7 0) 11 (nI (qE ++ qDg ht ++ [109, 32] ++ qDg ld ++ [47]).length)) (av := mu av 10 (qPut (av 10) 0 (qE ++ qDg ht ++ [109, 32] ++ qDg ld ++ [47]))) hN pk_us (by omega) (by simp only [qE, qLn0, List.length_append, List.length_cons, List.length_nil]; omega))
  refine g_callV F dX4_line_72 mi_X4_saysNumber q2580 q2582 qs57 gc_X4 mO_o t9 rfl rfl (nle rfl) (nle rfl) (nle rfl) (g_purv ?_) g_purvX
  refine g_eqh (h' := (mO K h o L (upd (upd iv 7 0) 11 (nI (qE ++ qDg ht ++ [109, 32] ++ qDg ld ++ [47] ++ qDg (10 * w)).length)) (mu av 10 (qPut (av 10) 0 (qE ++ qDg ht ++ [109, 32] ++ qDg ld ++ [47] ++ qDg (10 * w)))))) lnH ?_
  refine g_aload_n F dX4_line_75 0 rfl rfl ?_
  refine g_ldcS (i := 63) (id := 25) F rfl dX4_line_76 ?_
  have t10 := (ct_X4_says (l := [107, 103]) (n := (qE ++ qDg ht ++ [109, 32] ++ qDg ld ++ [47] ++ qDg (10 * w)).length) (iv := upd (upd iv 7 0) 11 (nI (qE ++ qDg ht ++ [109, 32] ++ qDg ld ++ [47] ++ qDg (10 * w)).length)) (av := mu av 10 (qPut (av 10) 0 (qE ++ qDg ht ++ [109, 32] ++ qDg ld ++ [47] ++ qDg (10 * w)))) (h := h) hN (hS 25 (by decide)) pk_us (by simp only [qE, qLn0, List.length_append, List.length_cons, List.length_nil]; omega) (by decide))
  refine g_callV F dX4_line_78 mi_X4_says q2585 q2587 qs58 gc_X4 mO_o t10 rfl rfl (nle rfl) (nle rfl) (nle rfl) (g_purv ?_) g_purvX
  refine g_eqh (h' := (mO K h o L (upd (upd iv 7 0) 11 (nI (qE ++ qDg ht ++ [109, 32] ++ qDg ld ++ [47] ++ qDg (10 * w) ++ [107, 103]).length)) (mu av 10 (qPut (av 10) 0 (qE ++ qDg ht ++ [109, 32] ++ qDg ld ++ [47] ++ qDg (10 * w) ++ [107, 103]))))) lnH ?_
  refine g_eqh (h' := (mO K h o L (upd (upd iv 7 0) 11 (nI (qLn0 ht ld w ++ qCl (av 0) (nI i) 0).length)) (mu av 10 (qPut (av 10) 0 (qLn0 ht ld w ++ qCl (av 0) (nI i) 0))))) (by simp only [qLn0, qCl, qE, List.nil_append, List.append_nil]) ?_
  refine g_iconst (v := 0) F dX4_line_81 rfl ?_
  refine g_istore_n (lv' := [(2, .int 0), (0, .ref o), (1, .int (nI i))]) F dX4_line_82 rfl (by decide) rfl ?_
  refine g_lv (lv' := [(0, .ref o), (1, .int (nI i)), (2, .int 0)]) [1, 2, 0] rfl ?_
  have lp : ∀ k, k ≤ nc → G K p e s m args below meth c (gRm 5 107 0 0) 3 (pR (.int (nI (qLine (av 0) nc nh i ht ld w).length)) (mO K h o L (upd (upd iv 7 0) 11 (nI (qLine (av 0) nc nh i ht ld w).length)) (mu av 10 (qPut (av 10) 0 (qLine (av 0) nc nh i ht ld w))))) (mO K h o L (upd (upd iv 7 0) 11 (nI (qLn0 ht ld w ++ qCl (av 0) (nI i) k).length)) (mu av 10 (qPut (av 10) 0 (qLn0 ht ld w ++ qCl (av 0) (nI i) k)))) 0 0 83 [(0, .ref o), (1, .int (nI i)), (2, .int (nI k))] [] := by
    refine gloop nc (fun k hk ih => ?_)
    refine g_iload_n F dX4_line_83 2 rfl rfl ?_
    refine g_aload_n F dX4_line_84 0 rfl rfl ?_
    refine gf_X4_9_X4 (v := .ref (L 0)) F dX4_line_85 mO_o rfl ?_
    refine g_iconst (v := 2) F dX4_line_88 rfl ?_
    refine g_ialdN (i := 2) F (mO_0 hN) (rfl : (2 : Int32) = nI 2) (show 2 = 2 by omega) (by omega) (by decide) dX4_line_89 ?_
    refine g_eqs (st' := [.int (nI nc), .int (nI k)]) (congrArg (fun z => [Value.int z, .int (nI k)]) h2) ?_
    refine g_icmp_ge (tgt := 119) F dX4_line_90 (by decide) (fun c11 => ?_) (fun c11 => ?_)
    · have hkN : k = nc := gexit (by omega) hk c11
      have hcl := qCl_n (f := av 0) (b := nI i) (k := k)
      refine g_aload_n F dX4_line_119 0 rfl rfl ?_
      refine g_aload_n F dX4_line_120 0 rfl rfl ?_
      refine g_iload_n F dX4_line_121 1 rfl rfl ?_
      refine g_callV F dX4_line_122 mi_X4_whyNot q2532 q2534 qs52 gc_X4 mO_o (ct_X4_whyNot (av := mu av 10 (qPut (av 10) 0 (qLn0 ht ld w ++ qCl (av 0) (nI i) k))) hN (i := i) h2 hc h3 hh (by omega)) rfl rfl (nle rfl) (nle rfl) (nle rfl) (g_pur ?_) g_purX
      refine g_if_le (tgt := 133) F dX4_line_125 (by decide) (fun c12 => ?_) (fun c12 => ?_)
      · have cw : ¬ 0 < mWhy (av 0) nc nh i := Int32.not_lt.mpr c12
        refine g_ldcS (i := 66) (id := 0) F rfl dX4_line_133 ?_
        have t13 := (ct_X4_says (l := []) (n := (qLn0 ht ld w ++ qCl (av 0) (nI i) k).length) (iv := upd (upd iv 7 0) 11 (nI (qLn0 ht ld w ++ qCl (av 0) (nI i) k).length)) (av := mu av 10 (qPut (av 10) 0 (qLn0 ht ld w ++ qCl (av 0) (nI i) k))) (h := h) hN (hS 0 (by decide)) pk_us (by simp only [qE, qLn0, List.length_append, List.length_cons, List.length_nil]; omega) (by decide))
        refine g_callV F dX4_line_135 mi_X4_says q2585 q2587 qs58 gc_X4 mO_o t13 rfl rfl (nle rfl) (nle rfl) (nle rfl) (g_purv ?_) g_purvX
        refine g_eqh (h' := (mO K h o L (upd (upd iv 7 0) 11 (nI (qLn0 ht ld w ++ qCl (av 0) (nI i) k ++ []).length)) (mu av 10 (qPut (av 10) 0 (qLn0 ht ld w ++ qCl (av 0) (nI i) k ++ []))))) lnH ?_
        refine g_aload_n F dX4_line_138 0 rfl rfl ?_
        refine gf_X4_209_X4 (v := .int (nI ((qLn0 ht ld w ++ qCl (av 0) (nI i) k ++ []).length))) F dX4_line_139 mO_o rfl ?_
        have hr : qLine (av 0) nc nh i ht ld w = qLn0 ht ld w ++ qCl (av 0) (nI i) k ++ [] := by rw [qLine, hkN]; simp only [cw, if_true, if_false]
        exact g_iret F dX4_line_142 (by rw [hr]; exact ⟨rfl, rfl⟩)
      · have cw : 0 < mWhy (av 0) nc nh i := Int32.not_le.mp c12
        refine g_ldcS (i := 65) (id := 27) F rfl dX4_line_128 ?_
        refine g_goto (tgt := 135) F dX4_line_130 (by decide) ?_
        have t14 := (ct_X4_says (l := [32, 33]) (n := (qLn0 ht ld w ++ qCl (av 0) (nI i) k).length) (iv := upd (upd iv 7 0) 11 (nI (qLn0 ht ld w ++ qCl (av 0) (nI i) k).length)) (av := mu av 10 (qPut (av 10) 0 (qLn0 ht ld w ++ qCl (av 0) (nI i) k))) (h := h) hN (hS 27 (by decide)) pk_us (by simp only [qE, qLn0, List.length_append, List.length_cons, List.length_nil]; omega) (by decide))
        refine g_callV F dX4_line_135 mi_X4_says q2585 q2587 qs58 gc_X4 mO_o t14 rfl rfl (nle rfl) (nle rfl) (nle rfl) (g_purv ?_) g_purvX
        refine g_eqh (h' := (mO K h o L (upd (upd iv 7 0) 11 (nI (qLn0 ht ld w ++ qCl (av 0) (nI i) k ++ [32, 33]).length)) (mu av 10 (qPut (av 10) 0 (qLn0 ht ld w ++ qCl (av 0) (nI i) k ++ [32, 33]))))) lnH ?_
        refine g_aload_n F dX4_line_138 0 rfl rfl ?_
        refine gf_X4_209_X4 (v := .int (nI ((qLn0 ht ld w ++ qCl (av 0) (nI i) k ++ [32, 33]).length))) F dX4_line_139 mO_o rfl ?_
        have hr : qLine (av 0) nc nh i ht ld w = qLn0 ht ld w ++ qCl (av 0) (nI i) k ++ [32, 33] := by rw [qLine, hkN]; simp only [cw, if_true, if_false]
        exact g_iret F dX4_line_142 (by rw [hr]; exact ⟨rfl, rfl⟩)
    · have hlt : k < nc := gbody (by omega) hk c11
      have hcl := qCl_n (f := av 0) (b := nI i) (k := k)
      have hdk := qDg_n (x := k)
      refine g_aload_n F dX4_line_93 0 rfl rfl ?_
      refine g_iload_n F dX4_line_94 2 rfl rfl ?_
      refine g_callV F dX4_line_95 mi_X4_barOf1 q2381 q2383 qs32 gc_X4 mO_o (ct_X4_barOf1 hN (i := 44 + 2 * k) (nto (nadd (nadd (rfl : (43 : Int32) = nI 43) (nmul (rfl : (2 : Int32) = nI 2) rfl)) (rfl : (1 : Int32) = nI 1)) (show ((43 + (2 * k)) + 1) = 44 + 2 * k by omega)) (by omega)) rfl rfl (nle rfl) (nle rfl) (nle rfl) (g_pur ?_) g_purX
      refine g_iload_n F dX4_line_98 1 rfl rfl ?_
      refine g_icmp_ne (tgt := 113) F dX4_line_99 (by decide) (fun c15 => ?_) (fun c15 => ?_)
      · have ck : ¬ av 0 (44 + 2 * k) = nI i := c15
        refine g_eqh (h' := (mO K h o L (upd (upd iv 7 0) 11 (nI (qLn0 ht ld w ++ qCl (av 0) (nI i) (k + 1)).length)) (mu av 10 (qPut (av 10) 0 (qLn0 ht ld w ++ qCl (av 0) (nI i) (k + 1)))))) (by simp only [qCl_s, ck, if_true, if_false, List.append_assoc]) ?_
        refine g_iinc (lv' := [(2, .int ((nI k) + 1)), (0, .ref o), (1, .int (nI i))]) (v := (nI k) + 1) F dX4_line_113 (k := 2) rfl rfl (by decide) rfl ?_
        refine g_goto (tgt := 83) F dX4_line_116 (by decide) ?_
        refine g_lv (lv' := [(0, .ref o), (1, .int (nI i)), (2, .int ((nI k) + 1))]) [1, 2, 0] rfl ?_
        exact g_eql (lv' := [(0, .ref o), (1, .int (nI i)), (2, .int (nI (k + 1)))]) (by simp only [nI_1]) (ih hlt)
      · have ck : av 0 (44 + 2 * k) = nI i := c15
        refine g_aload_n F dX4_line_102 0 rfl rfl ?_
        refine g_ldcS (i := 64) (id := 26) F rfl dX4_line_103 ?_
        have t16 := (ct_X4_says (l := [32, 99]) (n := (qLn0 ht ld w ++ qCl (av 0) (nI i) k).length) (iv := upd (upd iv 7 0) 11 (nI (qLn0 ht ld w ++ qCl (av 0) (nI i) k).length)) (av := mu av 10 (qPut (av 10) 0 (qLn0 ht ld w ++ qCl (av 0) (nI i) k))) (h := h) hN (hS 26 (by decide)) pk_us (by simp only [qE, qLn0, List.length_append, List.length_cons, List.length_nil]; omega) (by decide))
        refine g_callV F dX4_line_105 mi_X4_says q2585 q2587 qs58 gc_X4 mO_o t16 rfl rfl (nle rfl) (nle rfl) (nle rfl) (g_purv ?_) g_purvX
        refine g_eqh (h' := (mO K h o L (upd (upd iv 7 0) 11 (nI (qLn0 ht ld w ++ qCl (av 0) (nI i) k ++ [32, 99]).length)) (mu av 10 (qPut (av 10) 0 (qLn0 ht ld w ++ qCl (av 0) (nI i) k ++ [32, 99]))))) lnH ?_
        refine g_aload_n F dX4_line_108 0 rfl rfl ?_
        refine g_iload_n F dX4_line_109 2 rfl rfl ?_
        have t17 := (ct_X4_saysNumber4 (h := h) (x := k) (n := (qLn0 ht ld w ++ qCl (av 0) (nI i) k ++ [32, 99]).length) (iv := upd (upd iv 7 0) 11 (nI (qLn0 ht ld w ++ qCl (av 0) (nI i) k ++ [32, 99]).length)) (av := mu av 10 (qPut (av 10) 0 (qLn0 ht ld w ++ qCl (av 0) (nI i) k ++ [32, 99]))) hN pk_us (by omega) (by simp only [qE, qLn0, List.length_append, List.length_cons, List.length_nil]; omega))
        refine g_callV F dX4_line_110 mi_X4_saysNumber q2580 q2582 qs57 gc_X4 mO_o t17 rfl rfl (nle rfl) (nle rfl) (nle rfl) (g_purv ?_) g_purvX
        refine g_eqh (h' := (mO K h o L (upd (upd iv 7 0) 11 (nI (qLn0 ht ld w ++ qCl (av 0) (nI i) k ++ [32, 99] ++ qDg k).length)) (mu av 10 (qPut (av 10) 0 (qLn0 ht ld w ++ qCl (av 0) (nI i) k ++ [32, 99] ++ qDg k))))) lnH ?_
        refine g_eqh (h' := (mO K h o L (upd (upd iv 7 0) 11 (nI (qLn0 ht ld w ++ qCl (av 0) (nI i) (k + 1)).length)) (mu av 10 (qPut (av 10) 0 (qLn0 ht ld w ++ qCl (av 0) (nI i) (k + 1)))))) (by simp only [qCl_s, ck, if_true, if_false, List.append_assoc]) ?_
        refine g_iinc (lv' := [(2, .int ((nI k) + 1)), (0, .ref o), (1, .int (nI i))]) (v := (nI k) + 1) F dX4_line_113 (k := 2) rfl rfl (by decide) rfl ?_
        refine g_goto (tgt := 83) F dX4_line_116 (by decide) ?_
        refine g_lv (lv' := [(0, .ref o), (1, .int (nI i)), (2, .int ((nI k) + 1))]) [1, 2, 0] rfl ?_
        exact g_eql (lv' := [(0, .ref o), (1, .int (nI i)), (2, .int (nI (k + 1)))]) (by simp only [nI_1]) (ih hlt)
  exact lp 0 (Nat.zero_le _)
set_option maxHeartbeats 4000000 in
set_option maxRecDepth 100000 in
theorem ct_X4_cueLine {K : gK} {h : AH} {o : Nat} {L : Nat → Nat} {iv : Nat → Int32} {av : Nat → Nat → Int32} (hN : mN K o L) {nq : Nat} {g : Nat → Nat → Nat} (hS : gKS K) (h4 : av 0 4 = nI nq) (hq : nq ≤ 12) (hg : ∀ k, k < nq → av 0 (83 + 4 * k) = nI (g k 0) ∧ av 0 (84 + 4 * k) = nI (g k 1) ∧ av 0 (85 + 4 * k) = nI (g k 2)) (hgb : ∀ k, k < nq → g k 0 < 100 ∧ g k 1 < 100 ∧ g k 2 < 100) : gCt K yX4_cueLine w_X4_cueLine 5 107 0 0 (mO K h o L iv av) [.ref o] (pR (.int (nI (qCues (av 0) nq g).length)) (mO K h o L (upd (upd iv 7 0) 11 (nI (qCues (av 0) nq g).length)) (mu av 10 (qPut (av 10) 0 (qCues (av 0) nq g))))) := by
  refine g_meth pf_X4_cueLine (nle rfl) (fun p e s m args below meth c F hnm htb => ?_)
  have F : gFix K p s m args meth c cX4_cueLine 2 RX4 (some .int) := F
  refine g_eql (lv' := [(0, .ref o)]) rfl ?_
  refine g_aload_n F dX4_cueLine_0 0 rfl rfl ?_
  refine g_iconst (v := 0) F dX4_cueLine_1 rfl ?_
  refine gp_X4_69_X4 F dX4_cueLine_2 mO_o hN.1 (nle rfl) rfl (fun h_e1 e1 => ?_)
  refine g_mput (iv2 := upd iv 7 0) e1 rfl ?_
  refine g_aload_n F dX4_cueLine_5 0 rfl rfl ?_
  refine g_iconst (v := 0) F dX4_cueLine_6 rfl ?_
  refine gp_X4_209_X4 F dX4_cueLine_7 mO_o hN.1 (nle rfl) rfl (fun h_e2 e2 => ?_)
  refine g_mput (iv2 := upd (upd iv 7 0) 11 0) e2 rfl ?_
  refine g_eqh (h' := (mO K h o L (upd (upd iv 7 0) 11 (nI (qE).length)) (mu av 10 (qPut (av 10) 0 (qE))))) lnH0 ?_
  refine g_iconst (v := 0) F dX4_cueLine_10 rfl ?_
  refine g_istore_n (lv' := [(1, .int 0), (0, .ref o)]) F dX4_cueLine_11 rfl (by decide) rfl ?_
  refine g_eqh (h' := (mO K h o L (upd (upd iv 7 0) 11 (nI (qQl (av 0) nq g 0).length)) (mu av 10 (qPut (av 10) 0 (qQl (av 0) nq g 0))))) (by rfl) ?_
  refine g_lv (lv' := [(0, .ref o), (1, .int 0)]) [1, 0] rfl ?_
  have lp : ∀ k, k ≤ nq → G K p e s m args below meth c (gRm 5 107 0 0) 2 (pR (.int (nI (qCues (av 0) nq g).length)) (mO K h o L (upd (upd iv 7 0) 11 (nI (qCues (av 0) nq g).length)) (mu av 10 (qPut (av 10) 0 (qCues (av 0) nq g))))) (mO K h o L (upd (upd iv 7 0) 11 (nI (qQl (av 0) nq g k).length)) (mu av 10 (qPut (av 10) 0 (qQl (av 0) nq g k)))) 0 0 12 [(0, .ref o), (1, .int (nI k))] [] := by
    refine gloop nq (fun k hk ih => ?_)
    refine g_iload_n F dX4_cueLine_12 1 rfl rfl ?_
    refine g_aload_n F dX4_cueLine_13 0 rfl rfl ?_
    refine gf_X4_9_X4 (v := .ref (L 0)) F dX4_cueLine_14 mO_o rfl ?_
    refine g_iconst (v := 4) F dX4_cueLine_17 rfl ?_
    refine g_ialdN (i := 4) F (mO_0 hN) (rfl : (4 : Int32) = nI 4) (show 4 = 4 by omega) (by omega) (by decide) dX4_cueLine_18 ?_
    refine g_eqs (st' := [.int (nI nq), .int (nI k)]) (congrArg (fun z => [Value.int z, .int (nI k)]) h4) ?_
    refine g_icmp_ge (tgt := 104) F dX4_cueLine_19 (by decide) (fun c3 => ?_) (fun c3 => ?_)
    · have hkN : k = nq := gexit (by omega) hk c3
      have hcl := qQl_n (f := av 0) (nq := nq) (g := g) (k := k) (fun j hj => hgb j (by omega))
      refine g_aload_n F dX4_cueLine_104 0 rfl rfl ?_
      refine g_aload_n F dX4_cueLine_105 0 rfl rfl ?_
      refine gf_X4_209_X4 (v := .int (nI ((qQl (av 0) nq g k).length))) F dX4_cueLine_106 mO_o rfl ?_
      refine g_if_ne (tgt := 117) F dX4_cueLine_109 (by decide) (fun c4 => ?_) (fun c4 => ?_)
      · have hn0 : ¬ nq = 0 := fun z => c4 (by rw [hkN, z]; rfl)
        refine g_ldcS (i := 66) (id := 0) F rfl dX4_cueLine_117 ?_
        have t5 := (ct_X4_says (l := []) (n := (qQl (av 0) nq g k).length) (iv := upd (upd iv 7 0) 11 (nI (qQl (av 0) nq g k).length)) (av := mu av 10 (qPut (av 10) 0 (qQl (av 0) nq g k))) (h := h) hN (hS 0 (by decide)) pk_us (by simp only [qE, qLn0, List.length_append, List.length_cons, List.length_nil]; omega) (by decide))
        refine g_callV F dX4_cueLine_119 mi_X4_says q2585 q2587 qs58 gc_X4 mO_o t5 rfl rfl (nle rfl) (nle rfl) (nle rfl) (g_purv ?_) g_purvX
        refine g_eqh (h' := (mO K h o L (upd (upd iv 7 0) 11 (nI (qQl (av 0) nq g k ++ []).length)) (mu av 10 (qPut (av 10) 0 (qQl (av 0) nq g k ++ []))))) lnH ?_
        refine g_aload_n F dX4_cueLine_122 0 rfl rfl ?_
        refine gf_X4_209_X4 (v := .int (nI ((qQl (av 0) nq g k ++ []).length))) F dX4_cueLine_123 mO_o rfl ?_
        have hr : qCues (av 0) nq g = qQl (av 0) nq g k ++ [] := by first | (rw [qCues, if_neg hn0, hkN]; simp only [List.append_nil]) | (rw [qCues, if_pos hn0, hkN, hn0]; rfl)
        exact g_iret F dX4_cueLine_126 (by rw [hr]; exact ⟨rfl, rfl⟩)
      · have hn0 : nq = 0 := by
          rcases Nat.eq_zero_or_pos nq with q | q
          · exact q
          · exact absurd c4 (nI_ne0 (by rw [hkN]; exact qQl_p q) (by omega))
        refine g_ldcS (i := 71) (id := 6) F rfl dX4_cueLine_112 ?_
        refine g_goto (tgt := 119) F dX4_cueLine_114 (by decide) ?_
        have t6 := (ct_X4_says (l := [110, 111, 32, 99, 117, 101, 115]) (n := (qQl (av 0) nq g k).length) (iv := upd (upd iv 7 0) 11 (nI (qQl (av 0) nq g k).length)) (av := mu av 10 (qPut (av 10) 0 (qQl (av 0) nq g k))) (h := h) hN (hS 6 (by decide)) pk_us (by simp only [qE, qLn0, List.length_append, List.length_cons, List.length_nil]; omega) (by decide))
        refine g_callV F dX4_cueLine_119 mi_X4_says q2585 q2587 qs58 gc_X4 mO_o t6 rfl rfl (nle rfl) (nle rfl) (nle rfl) (g_purv ?_) g_purvX
        refine g_eqh (h' := (mO K h o L (upd (upd iv 7 0) 11 (nI (qQl (av 0) nq g k ++ [110, 111, 32, 99, 117, 101, 115]).length)) (mu av 10 (qPut (av 10) 0 (qQl (av 0) nq g k ++ [110, 111, 32, 99, 117, 101, 115]))))) lnH ?_
        refine g_aload_n F dX4_cueLine_122 0 rfl rfl ?_
        refine gf_X4_209_X4 (v := .int (nI ((qQl (av 0) nq g k ++ [110, 111, 32, 99, 117, 101, 115]).length))) F dX4_cueLine_123 mO_o rfl ?_
        have hr : qCues (av 0) nq g = qQl (av 0) nq g k ++ [110, 111, 32, 99, 117, 101, 115] := by first | (rw [qCues, if_neg hn0, hkN]; simp only [List.append_nil]) | (rw [qCues, if_pos hn0, hkN, hn0]; rfl)
        exact g_iret F dX4_cueLine_126 (by rw [hr]; exact ⟨rfl, rfl⟩)
    · have hlt : k < nq := gbody (by omega) hk c3
      have hcl := qQl_n (f := av 0) (nq := nq) (g := g) (k := k) (fun j hj => hgb j (by omega))
      obtain ⟨hb0, hb1, hb2⟩ := hgb k hlt
      have hd0 := qDg_2 hb0
      have hd1 := qDg_2 hb1
      have hd2 := qDg_2 hb2
      refine g_aload_n F dX4_cueLine_22 0 rfl rfl ?_
      refine g_iload_n F dX4_cueLine_23 1 rfl rfl ?_
      refine g_if_le (tgt := 32) F dX4_cueLine_24 (by decide) (fun c7 => ?_) (fun c7 => ?_)
      · have hk0 : ¬ 0 < k := fun z => nI_nle z (by omega) c7
        refine g_ldcS (i := 66) (id := 0) F rfl dX4_cueLine_32 ?_
        have t8 := (ct_X4_says (l := []) (n := (qQl (av 0) nq g k).length) (iv := upd (upd iv 7 0) 11 (nI (qQl (av 0) nq g k).length)) (av := mu av 10 (qPut (av 10) 0 (qQl (av 0) nq g k))) (h := h) hN (hS 0 (by decide)) pk_us (by simp only [qE, qLn0, List.length_append, List.length_cons, List.length_nil]; omega) (by decide))
        refine g_callV F dX4_cueLine_34 mi_X4_says q2585 q2587 qs58 gc_X4 mO_o t8 rfl rfl (nle rfl) (nle rfl) (nle rfl) (g_purv ?_) g_purvX
        refine g_eqh (h' := (mO K h o L (upd (upd iv 7 0) 11 (nI (qQl (av 0) nq g k ++ []).length)) (mu av 10 (qPut (av 10) 0 (qQl (av 0) nq g k ++ []))))) lnH ?_
        refine g_aload_n F dX4_cueLine_37 0 rfl rfl ?_
        refine g_aload_n F dX4_cueLine_38 0 rfl rfl ?_
        refine g_iload_n F dX4_cueLine_39 1 rfl rfl ?_
        refine g_iconst (v := 0) F dX4_cueLine_40 rfl ?_
        refine g_callV F dX4_cueLine_41 mi_X4_cue1 q2548 q2550 qs54 gc_X4 mO_o (ct_X4_cue1 hN (i := 83 + 4 * k) (nto (nadd (nadd (rfl : (83 : Int32) = nI 83) (nmul (rfl : (4 : Int32) = nI 4) rfl)) (rfl : (0 : Int32) = nI 0)) (show ((83 + (4 * k)) + 0) = 83 + 4 * k by omega)) (by omega)) rfl rfl (nle rfl) (nle rfl) (nle rfl) (g_pur ?_) g_purX
        refine g_eqs (st' := [.int (nI (g k 0)), .ref o]) (congrArg (fun z => [Value.int z, .ref o]) (hg k hlt).1) ?_
        have t9 := (ct_X4_saysNumber4 (h := h) (x := g k 0) (n := (qQl (av 0) nq g k ++ []).length) (iv := upd (upd iv 7 0) 11 (nI (qQl (av 0) nq g k ++ []).length)) (av := mu av 10 (qPut (av 10) 0 (qQl (av 0) nq g k ++ []))) hN pk_us (by omega) (by simp only [qE, qLn0, List.length_append, List.length_cons, List.length_nil]; omega))
        refine g_callV F dX4_cueLine_44 mi_X4_saysNumber q2580 q2582 qs57 gc_X4 mO_o t9 rfl rfl (nle rfl) (nle rfl) (nle rfl) (g_purv ?_) g_purvX
        refine g_eqh (h' := (mO K h o L (upd (upd iv 7 0) 11 (nI (qQl (av 0) nq g k ++ [] ++ qDg (g k 0)).length)) (mu av 10 (qPut (av 10) 0 (qQl (av 0) nq g k ++ [] ++ qDg (g k 0)))))) lnH ?_
        refine g_aload_n F dX4_cueLine_47 0 rfl rfl ?_
        refine g_ldcS (i := 68) (id := 30) F rfl dX4_cueLine_48 ?_
        have t10 := (ct_X4_says (l := [58]) (n := (qQl (av 0) nq g k ++ [] ++ qDg (g k 0)).length) (iv := upd (upd iv 7 0) 11 (nI (qQl (av 0) nq g k ++ [] ++ qDg (g k 0)).length)) (av := mu av 10 (qPut (av 10) 0 (qQl (av 0) nq g k ++ [] ++ qDg (g k 0)))) (h := h) hN (hS 30 (by decide)) pk_us (by simp only [qE, qLn0, List.length_append, List.length_cons, List.length_nil]; omega) (by decide))
        refine g_callV F dX4_cueLine_50 mi_X4_says q2585 q2587 qs58 gc_X4 mO_o t10 rfl rfl (nle rfl) (nle rfl) (nle rfl) (g_purv ?_) g_purvX
        refine g_eqh (h' := (mO K h o L (upd (upd iv 7 0) 11 (nI (qQl (av 0) nq g k ++ [] ++ qDg (g k 0) ++ [58]).length)) (mu av 10 (qPut (av 10) 0 (qQl (av 0) nq g k ++ [] ++ qDg (g k 0) ++ [58]))))) lnH ?_
        refine g_aload_n F dX4_cueLine_53 0 rfl rfl ?_
        refine g_aload_n F dX4_cueLine_54 0 rfl rfl ?_
        refine g_iload_n F dX4_cueLine_55 1 rfl rfl ?_
        refine g_iconst (v := 1) F dX4_cueLine_56 rfl ?_
        refine g_callV F dX4_cueLine_57 mi_X4_cue1 q2548 q2550 qs54 gc_X4 mO_o (ct_X4_cue1 hN (i := 84 + 4 * k) (nto (nadd (nadd (rfl : (83 : Int32) = nI 83) (nmul (rfl : (4 : Int32) = nI 4) rfl)) (rfl : (1 : Int32) = nI 1)) (show ((83 + (4 * k)) + 1) = 84 + 4 * k by omega)) (by omega)) rfl rfl (nle rfl) (nle rfl) (nle rfl) (g_pur ?_) g_purX
        refine g_eqs (st' := [.int (nI (g k 1)), .ref o]) (congrArg (fun z => [Value.int z, .ref o]) (hg k hlt).2.1) ?_
        have t11 := (ct_X4_saysNumber4 (h := h) (x := g k 1) (n := (qQl (av 0) nq g k ++ [] ++ qDg (g k 0) ++ [58]).length) (iv := upd (upd iv 7 0) 11 (nI (qQl (av 0) nq g k ++ [] ++ qDg (g k 0) ++ [58]).length)) (av := mu av 10 (qPut (av 10) 0 (qQl (av 0) nq g k ++ [] ++ qDg (g k 0) ++ [58]))) hN pk_us (by omega) (by simp only [qE, qLn0, List.length_append, List.length_cons, List.length_nil]; omega))
        refine g_callV F dX4_cueLine_60 mi_X4_saysNumber q2580 q2582 qs57 gc_X4 mO_o t11 rfl rfl (nle rfl) (nle rfl) (nle rfl) (g_purv ?_) g_purvX
        refine g_eqh (h' := (mO K h o L (upd (upd iv 7 0) 11 (nI (qQl (av 0) nq g k ++ [] ++ qDg (g k 0) ++ [58] ++ qDg (g k 1)).length)) (mu av 10 (qPut (av 10) 0 (qQl (av 0) nq g k ++ [] ++ qDg (g k 0) ++ [58] ++ qDg (g k 1)))))) lnH ?_
        refine g_aload_n F dX4_cueLine_63 0 rfl rfl ?_
        refine g_ldcS (i := 69) (id := 31) F rfl dX4_cueLine_64 ?_
        have t12 := (ct_X4_says (l := [62]) (n := (qQl (av 0) nq g k ++ [] ++ qDg (g k 0) ++ [58] ++ qDg (g k 1)).length) (iv := upd (upd iv 7 0) 11 (nI (qQl (av 0) nq g k ++ [] ++ qDg (g k 0) ++ [58] ++ qDg (g k 1)).length)) (av := mu av 10 (qPut (av 10) 0 (qQl (av 0) nq g k ++ [] ++ qDg (g k 0) ++ [58] ++ qDg (g k 1)))) (h := h) hN (hS 31 (by decide)) pk_us (by simp only [qE, qLn0, List.length_append, List.length_cons, List.length_nil]; omega) (by decide))
        refine g_callV F dX4_cueLine_66 mi_X4_says q2585 q2587 qs58 gc_X4 mO_o t12 rfl rfl (nle rfl) (nle rfl) (nle rfl) (g_purv ?_) g_purvX
        refine g_eqh (h' := (mO K h o L (upd (upd iv 7 0) 11 (nI (qQl (av 0) nq g k ++ [] ++ qDg (g k 0) ++ [58] ++ qDg (g k 1) ++ [62]).length)) (mu av 10 (qPut (av 10) 0 (qQl (av 0) nq g k ++ [] ++ qDg (g k 0) ++ [58] ++ qDg (g k 1) ++ [62]))))) lnH ?_
        refine g_aload_n F dX4_cueLine_69 0 rfl rfl ?_
        refine g_aload_n F dX4_cueLine_70 0 rfl rfl ?_
        refine g_iload_n F dX4_cueLine_71 1 rfl rfl ?_
        refine g_iconst (v := 2) F dX4_cueLine_72 rfl ?_
        refine g_callV F dX4_cueLine_73 mi_X4_cue1 q2548 q2550 qs54 gc_X4 mO_o (ct_X4_cue1 hN (i := 85 + 4 * k) (nto (nadd (nadd (rfl : (83 : Int32) = nI 83) (nmul (rfl : (4 : Int32) = nI 4) rfl)) (rfl : (2 : Int32) = nI 2)) (show ((83 + (4 * k)) + 2) = 85 + 4 * k by omega)) (by omega)) rfl rfl (nle rfl) (nle rfl) (nle rfl) (g_pur ?_) g_purX
        refine g_eqs (st' := [.int (nI (g k 2)), .ref o]) (congrArg (fun z => [Value.int z, .ref o]) (hg k hlt).2.2) ?_
        have t13 := (ct_X4_saysNumber4 (h := h) (x := g k 2) (n := (qQl (av 0) nq g k ++ [] ++ qDg (g k 0) ++ [58] ++ qDg (g k 1) ++ [62]).length) (iv := upd (upd iv 7 0) 11 (nI (qQl (av 0) nq g k ++ [] ++ qDg (g k 0) ++ [58] ++ qDg (g k 1) ++ [62]).length)) (av := mu av 10 (qPut (av 10) 0 (qQl (av 0) nq g k ++ [] ++ qDg (g k 0) ++ [58] ++ qDg (g k 1) ++ [62]))) hN pk_us (by omega) (by simp only [qE, qLn0, List.length_append, List.length_cons, List.length_nil]; omega))
        refine g_callV F dX4_cueLine_76 mi_X4_saysNumber q2580 q2582 qs57 gc_X4 mO_o t13 rfl rfl (nle rfl) (nle rfl) (nle rfl) (g_purv ?_) g_purvX
        refine g_eqh (h' := (mO K h o L (upd (upd iv 7 0) 11 (nI (qQl (av 0) nq g k ++ [] ++ qDg (g k 0) ++ [58] ++ qDg (g k 1) ++ [62] ++ qDg (g k 2)).length)) (mu av 10 (qPut (av 10) 0 (qQl (av 0) nq g k ++ [] ++ qDg (g k 0) ++ [58] ++ qDg (g k 1) ++ [62] ++ qDg (g k 2)))))) lnH ?_
        refine g_aload_n F dX4_cueLine_79 0 rfl rfl ?_
        refine g_iload_n F dX4_cueLine_80 1 rfl rfl ?_
        refine g_aload_n F dX4_cueLine_81 0 rfl rfl ?_
        refine g_callV F dX4_cueLine_82 mi_X4_next q2560 q2562 qs55 gc_X4 mO_o (ct_X4_next (av := mu av 10 (qPut (av 10) 0 (qQl (av 0) nq g k ++ [] ++ qDg (g k 0) ++ [58] ++ qDg (g k 1) ++ [62] ++ qDg (g k 2)))) hN h4 hq) rfl rfl (nle rfl) (nle rfl) (nle rfl) (g_pur ?_) g_purX
        refine g_icmp_ne (tgt := 93) F dX4_cueLine_85 (by decide) (fun c14 => ?_) (fun c14 => ?_)
        · have cn : ¬ xNext (av 0) nq = some k := fun z => c14 ((xNextI_eq hlt hq).mpr z)
          refine g_ldcS (i := 66) (id := 0) F rfl dX4_cueLine_93 ?_
          have t15 := (ct_X4_says (l := []) (n := (qQl (av 0) nq g k ++ [] ++ qDg (g k 0) ++ [58] ++ qDg (g k 1) ++ [62] ++ qDg (g k 2)).length) (iv := upd (upd iv 7 0) 11 (nI (qQl (av 0) nq g k ++ [] ++ qDg (g k 0) ++ [58] ++ qDg (g k 1) ++ [62] ++ qDg (g k 2)).length)) (av := mu av 10 (qPut (av 10) 0 (qQl (av 0) nq g k ++ [] ++ qDg (g k 0) ++ [58] ++ qDg (g k 1) ++ [62] ++ qDg (g k 2)))) (h := h) hN (hS 0 (by decide)) pk_us (by simp only [qE, qLn0, List.length_append, List.length_cons, List.length_nil]; omega) (by decide))
          refine g_callV F dX4_cueLine_95 mi_X4_says q2585 q2587 qs58 gc_X4 mO_o t15 rfl rfl (nle rfl) (nle rfl) (nle rfl) (g_purv ?_) g_purvX
          refine g_eqh (h' := (mO K h o L (upd (upd iv 7 0) 11 (nI (qQl (av 0) nq g k ++ [] ++ qDg (g k 0) ++ [58] ++ qDg (g k 1) ++ [62] ++ qDg (g k 2) ++ []).length)) (mu av 10 (qPut (av 10) 0 (qQl (av 0) nq g k ++ [] ++ qDg (g k 0) ++ [58] ++ qDg (g k 1) ++ [62] ++ qDg (g k 2) ++ []))))) lnH ?_
          refine g_eqh (h' := (mO K h o L (upd (upd iv 7 0) 11 (nI (qQl (av 0) nq g (k + 1)).length)) (mu av 10 (qPut (av 10) 0 (qQl (av 0) nq g (k + 1)))))) (by simp only [qQl_s, hk0, cn, if_true, if_false, List.append_assoc]) ?_
          refine g_iinc (lv' := [(1, .int ((nI k) + 1)), (0, .ref o)]) (v := (nI k) + 1) F dX4_cueLine_98 (k := 1) rfl rfl (by decide) rfl ?_
          refine g_goto (tgt := 12) F dX4_cueLine_101 (by decide) ?_
          refine g_lv (lv' := [(0, .ref o), (1, .int ((nI k) + 1))]) [1, 0] rfl ?_
          exact g_eql (lv' := [(0, .ref o), (1, .int (nI (k + 1)))]) (by simp only [nI_1]) (ih hlt)
        · have cn : xNext (av 0) nq = some k := (xNextI_eq hlt hq).mp c14
          refine g_ldcS (i := 70) (id := 5) F rfl dX4_cueLine_88 ?_
          refine g_goto (tgt := 95) F dX4_cueLine_90 (by decide) ?_
          have t16 := (ct_X4_says (l := [42]) (n := (qQl (av 0) nq g k ++ [] ++ qDg (g k 0) ++ [58] ++ qDg (g k 1) ++ [62] ++ qDg (g k 2)).length) (iv := upd (upd iv 7 0) 11 (nI (qQl (av 0) nq g k ++ [] ++ qDg (g k 0) ++ [58] ++ qDg (g k 1) ++ [62] ++ qDg (g k 2)).length)) (av := mu av 10 (qPut (av 10) 0 (qQl (av 0) nq g k ++ [] ++ qDg (g k 0) ++ [58] ++ qDg (g k 1) ++ [62] ++ qDg (g k 2)))) (h := h) hN (hS 5 (by decide)) pk_us (by simp only [qE, qLn0, List.length_append, List.length_cons, List.length_nil]; omega) (by decide))
          refine g_callV F dX4_cueLine_95 mi_X4_says q2585 q2587 qs58 gc_X4 mO_o t16 rfl rfl (nle rfl) (nle rfl) (nle rfl) (g_purv ?_) g_purvX
          refine g_eqh (h' := (mO K h o L (upd (upd iv 7 0) 11 (nI (qQl (av 0) nq g k ++ [] ++ qDg (g k 0) ++ [58] ++ qDg (g k 1) ++ [62] ++ qDg (g k 2) ++ [42]).length)) (mu av 10 (qPut (av 10) 0 (qQl (av 0) nq g k ++ [] ++ qDg (g k 0) ++ [58] ++ qDg (g k 1) ++ [62] ++ qDg (g k 2) ++ [42]))))) lnH ?_
          refine g_eqh (h' := (mO K h o L (upd (upd iv 7 0) 11 (nI (qQl (av 0) nq g (k + 1)).length)) (mu av 10 (qPut (av 10) 0 (qQl (av 0) nq g (k + 1)))))) (by simp only [qQl_s, hk0, cn, if_true, if_false, List.append_assoc]) ?_
          refine g_iinc (lv' := [(1, .int ((nI k) + 1)), (0, .ref o)]) (v := (nI k) + 1) F dX4_cueLine_98 (k := 1) rfl rfl (by decide) rfl ?_
          refine g_goto (tgt := 12) F dX4_cueLine_101 (by decide) ?_
          refine g_lv (lv' := [(0, .ref o), (1, .int ((nI k) + 1))]) [1, 0] rfl ?_
          exact g_eql (lv' := [(0, .ref o), (1, .int (nI (k + 1)))]) (by simp only [nI_1]) (ih hlt)
      · have hk0 : 0 < k := Nat.pos_of_ne_zero (fun z => c7 (by rw [z]; decide))
        refine g_ldcS (i := 67) (id := 4) F rfl dX4_cueLine_27 ?_
        refine g_goto (tgt := 34) F dX4_cueLine_29 (by decide) ?_
        have t17 := (ct_X4_says (l := [44, 32]) (n := (qQl (av 0) nq g k).length) (iv := upd (upd iv 7 0) 11 (nI (qQl (av 0) nq g k).length)) (av := mu av 10 (qPut (av 10) 0 (qQl (av 0) nq g k))) (h := h) hN (hS 4 (by decide)) pk_us (by simp only [qE, qLn0, List.length_append, List.length_cons, List.length_nil]; omega) (by decide))
        refine g_callV F dX4_cueLine_34 mi_X4_says q2585 q2587 qs58 gc_X4 mO_o t17 rfl rfl (nle rfl) (nle rfl) (nle rfl) (g_purv ?_) g_purvX
        refine g_eqh (h' := (mO K h o L (upd (upd iv 7 0) 11 (nI (qQl (av 0) nq g k ++ [44, 32]).length)) (mu av 10 (qPut (av 10) 0 (qQl (av 0) nq g k ++ [44, 32]))))) lnH ?_
        refine g_aload_n F dX4_cueLine_37 0 rfl rfl ?_
        refine g_aload_n F dX4_cueLine_38 0 rfl rfl ?_
        refine g_iload_n F dX4_cueLine_39 1 rfl rfl ?_
        refine g_iconst (v := 0) F dX4_cueLine_40 rfl ?_
        refine g_callV F dX4_cueLine_41 mi_X4_cue1 q2548 q2550 qs54 gc_X4 mO_o (ct_X4_cue1 hN (i := 83 + 4 * k) (nto (nadd (nadd (rfl : (83 : Int32) = nI 83) (nmul (rfl : (4 : Int32) = nI 4) rfl)) (rfl : (0 : Int32) = nI 0)) (show ((83 + (4 * k)) + 0) = 83 + 4 * k by omega)) (by omega)) rfl rfl (nle rfl) (nle rfl) (nle rfl) (g_pur ?_) g_purX
        refine g_eqs (st' := [.int (nI (g k 0)), .ref o]) (congrArg (fun z => [Value.int z, .ref o]) (hg k hlt).1) ?_
        have t18 := (ct_X4_saysNumber4 (h := h) (x := g k 0) (n := (qQl (av 0) nq g k ++ [44, 32]).length) (iv := upd (upd iv 7 0) 11 (nI (qQl (av 0) nq g k ++ [44, 32]).length)) (av := mu av 10 (qPut (av 10) 0 (qQl (av 0) nq g k ++ [44, 32]))) hN pk_us (by omega) (by simp only [qE, qLn0, List.length_append, List.length_cons, List.length_nil]; omega))
        refine g_callV F dX4_cueLine_44 mi_X4_saysNumber q2580 q2582 qs57 gc_X4 mO_o t18 rfl rfl (nle rfl) (nle rfl) (nle rfl) (g_purv ?_) g_purvX
        refine g_eqh (h' := (mO K h o L (upd (upd iv 7 0) 11 (nI (qQl (av 0) nq g k ++ [44, 32] ++ qDg (g k 0)).length)) (mu av 10 (qPut (av 10) 0 (qQl (av 0) nq g k ++ [44, 32] ++ qDg (g k 0)))))) lnH ?_
        refine g_aload_n F dX4_cueLine_47 0 rfl rfl ?_
        refine g_ldcS (i := 68) (id := 30) F rfl dX4_cueLine_48 ?_
        have t19 := (ct_X4_says (l := [58]) (n := (qQl (av 0) nq g k ++ [44, 32] ++ qDg (g k 0)).length) (iv := upd (upd iv 7 0) 11 (nI (qQl (av 0) nq g k ++ [44, 32] ++ qDg (g k 0)).length)) (av := mu av 10 (qPut (av 10) 0 (qQl (av 0) nq g k ++ [44, 32] ++ qDg (g k 0)))) (h := h) hN (hS 30 (by decide)) pk_us (by simp only [qE, qLn0, List.length_append, List.length_cons, List.length_nil]; omega) (by decide))
        refine g_callV F dX4_cueLine_50 mi_X4_says q2585 q2587 qs58 gc_X4 mO_o t19 rfl rfl (nle rfl) (nle rfl) (nle rfl) (g_purv ?_) g_purvX
        refine g_eqh (h' := (mO K h o L (upd (upd iv 7 0) 11 (nI (qQl (av 0) nq g k ++ [44, 32] ++ qDg (g k 0) ++ [58]).length)) (mu av 10 (qPut (av 10) 0 (qQl (av 0) nq g k ++ [44, 32] ++ qDg (g k 0) ++ [58]))))) lnH ?_
        refine g_aload_n F dX4_cueLine_53 0 rfl rfl ?_
        refine g_aload_n F dX4_cueLine_54 0 rfl rfl ?_
        refine g_iload_n F dX4_cueLine_55 1 rfl rfl ?_
        refine g_iconst (v := 1) F dX4_cueLine_56 rfl ?_
        refine g_callV F dX4_cueLine_57 mi_X4_cue1 q2548 q2550 qs54 gc_X4 mO_o (ct_X4_cue1 hN (i := 84 + 4 * k) (nto (nadd (nadd (rfl : (83 : Int32) = nI 83) (nmul (rfl : (4 : Int32) = nI 4) rfl)) (rfl : (1 : Int32) = nI 1)) (show ((83 + (4 * k)) + 1) = 84 + 4 * k by omega)) (by omega)) rfl rfl (nle rfl) (nle rfl) (nle rfl) (g_pur ?_) g_purX
        refine g_eqs (st' := [.int (nI (g k 1)), .ref o]) (congrArg (fun z => [Value.int z, .ref o]) (hg k hlt).2.1) ?_
        have t20 := (ct_X4_saysNumber4 (h := h) (x := g k 1) (n := (qQl (av 0) nq g k ++ [44, 32] ++ qDg (g k 0) ++ [58]).length) (iv := upd (upd iv 7 0) 11 (nI (qQl (av 0) nq g k ++ [44, 32] ++ qDg (g k 0) ++ [58]).length)) (av := mu av 10 (qPut (av 10) 0 (qQl (av 0) nq g k ++ [44, 32] ++ qDg (g k 0) ++ [58]))) hN pk_us (by omega) (by simp only [qE, qLn0, List.length_append, List.length_cons, List.length_nil]; omega))
        refine g_callV F dX4_cueLine_60 mi_X4_saysNumber q2580 q2582 qs57 gc_X4 mO_o t20 rfl rfl (nle rfl) (nle rfl) (nle rfl) (g_purv ?_) g_purvX
        refine g_eqh (h' := (mO K h o L (upd (upd iv 7 0) 11 (nI (qQl (av 0) nq g k ++ [44, 32] ++ qDg (g k 0) ++ [58] ++ qDg (g k 1)).length)) (mu av 10 (qPut (av 10) 0 (qQl (av 0) nq g k ++ [44, 32] ++ qDg (g k 0) ++ [58] ++ qDg (g k 1)))))) lnH ?_
        refine g_aload_n F dX4_cueLine_63 0 rfl rfl ?_
        refine g_ldcS (i := 69) (id := 31) F rfl dX4_cueLine_64 ?_
        have t21 := (ct_X4_says (l := [62]) (n := (qQl (av 0) nq g k ++ [44, 32] ++ qDg (g k 0) ++ [58] ++ qDg (g k 1)).length) (iv := upd (upd iv 7 0) 11 (nI (qQl (av 0) nq g k ++ [44, 32] ++ qDg (g k 0) ++ [58] ++ qDg (g k 1)).length)) (av := mu av 10 (qPut (av 10) 0 (qQl (av 0) nq g k ++ [44, 32] ++ qDg (g k 0) ++ [58] ++ qDg (g k 1)))) (h := h) hN (hS 31 (by decide)) pk_us (by simp only [qE, qLn0, List.length_append, List.length_cons, List.length_nil]; omega) (by decide))
        refine g_callV F dX4_cueLine_66 mi_X4_says q2585 q2587 qs58 gc_X4 mO_o t21 rfl rfl (nle rfl) (nle rfl) (nle rfl) (g_purv ?_) g_purvX
        refine g_eqh (h' := (mO K h o L (upd (upd iv 7 0) 11 (nI (qQl (av 0) nq g k ++ [44, 32] ++ qDg (g k 0) ++ [58] ++ qDg (g k 1) ++ [62]).length)) (mu av 10 (qPut (av 10) 0 (qQl (av 0) nq g k ++ [44, 32] ++ qDg (g k 0) ++ [58] ++ qDg (g k 1) ++ [62]))))) lnH ?_
        refine g_aload_n F dX4_cueLine_69 0 rfl rfl ?_
        refine g_aload_n F dX4_cueLine_70 0 rfl rfl ?_
        refine g_iload_n F dX4_cueLine_71 1 rfl rfl ?_
        refine g_iconst (v := 2) F dX4_cueLine_72 rfl ?_
        refine g_callV F dX4_cueLine_73 mi_X4_cue1 q2548 q2550 qs54 gc_X4 mO_o (ct_X4_cue1 hN (i := 85 + 4 * k) (nto (nadd (nadd (rfl : (83 : Int32) = nI 83) (nmul (rfl : (4 : Int32) = nI 4) rfl)) (rfl : (2 : Int32) = nI 2)) (show ((83 + (4 * k)) + 2) = 85 + 4 * k by omega)) (by omega)) rfl rfl (nle rfl) (nle rfl) (nle rfl) (g_pur ?_) g_purX
        refine g_eqs (st' := [.int (nI (g k 2)), .ref o]) (congrArg (fun z => [Value.int z, .ref o]) (hg k hlt).2.2) ?_
        have t22 := (ct_X4_saysNumber4 (h := h) (x := g k 2) (n := (qQl (av 0) nq g k ++ [44, 32] ++ qDg (g k 0) ++ [58] ++ qDg (g k 1) ++ [62]).length) (iv := upd (upd iv 7 0) 11 (nI (qQl (av 0) nq g k ++ [44, 32] ++ qDg (g k 0) ++ [58] ++ qDg (g k 1) ++ [62]).length)) (av := mu av 10 (qPut (av 10) 0 (qQl (av 0) nq g k ++ [44, 32] ++ qDg (g k 0) ++ [58] ++ qDg (g k 1) ++ [62]))) hN pk_us (by omega) (by simp only [qE, qLn0, List.length_append, List.length_cons, List.length_nil]; omega))
        refine g_callV F dX4_cueLine_76 mi_X4_saysNumber q2580 q2582 qs57 gc_X4 mO_o t22 rfl rfl (nle rfl) (nle rfl) (nle rfl) (g_purv ?_) g_purvX
        refine g_eqh (h' := (mO K h o L (upd (upd iv 7 0) 11 (nI (qQl (av 0) nq g k ++ [44, 32] ++ qDg (g k 0) ++ [58] ++ qDg (g k 1) ++ [62] ++ qDg (g k 2)).length)) (mu av 10 (qPut (av 10) 0 (qQl (av 0) nq g k ++ [44, 32] ++ qDg (g k 0) ++ [58] ++ qDg (g k 1) ++ [62] ++ qDg (g k 2)))))) lnH ?_
        refine g_aload_n F dX4_cueLine_79 0 rfl rfl ?_
        refine g_iload_n F dX4_cueLine_80 1 rfl rfl ?_
        refine g_aload_n F dX4_cueLine_81 0 rfl rfl ?_
        refine g_callV F dX4_cueLine_82 mi_X4_next q2560 q2562 qs55 gc_X4 mO_o (ct_X4_next (av := mu av 10 (qPut (av 10) 0 (qQl (av 0) nq g k ++ [44, 32] ++ qDg (g k 0) ++ [58] ++ qDg (g k 1) ++ [62] ++ qDg (g k 2)))) hN h4 hq) rfl rfl (nle rfl) (nle rfl) (nle rfl) (g_pur ?_) g_purX
        refine g_icmp_ne (tgt := 93) F dX4_cueLine_85 (by decide) (fun c23 => ?_) (fun c23 => ?_)
        · have cn : ¬ xNext (av 0) nq = some k := fun z => c23 ((xNextI_eq hlt hq).mpr z)
          refine g_ldcS (i := 66) (id := 0) F rfl dX4_cueLine_93 ?_
          have t24 := (ct_X4_says (l := []) (n := (qQl (av 0) nq g k ++ [44, 32] ++ qDg (g k 0) ++ [58] ++ qDg (g k 1) ++ [62] ++ qDg (g k 2)).length) (iv := upd (upd iv 7 0) 11 (nI (qQl (av 0) nq g k ++ [44, 32] ++ qDg (g k 0) ++ [58] ++ qDg (g k 1) ++ [62] ++ qDg (g k 2)).length)) (av := mu av 10 (qPut (av 10) 0 (qQl (av 0) nq g k ++ [44, 32] ++ qDg (g k 0) ++ [58] ++ qDg (g k 1) ++ [62] ++ qDg (g k 2)))) (h := h) hN (hS 0 (by decide)) pk_us (by simp only [qE, qLn0, List.length_append, List.length_cons, List.length_nil]; omega) (by decide))
          refine g_callV F dX4_cueLine_95 mi_X4_says q2585 q2587 qs58 gc_X4 mO_o t24 rfl rfl (nle rfl) (nle rfl) (nle rfl) (g_purv ?_) g_purvX
          refine g_eqh (h' := (mO K h o L (upd (upd iv 7 0) 11 (nI (qQl (av 0) nq g k ++ [44, 32] ++ qDg (g k 0) ++ [58] ++ qDg (g k 1) ++ [62] ++ qDg (g k 2) ++ []).length)) (mu av 10 (qPut (av 10) 0 (qQl (av 0) nq g k ++ [44, 32] ++ qDg (g k 0) ++ [58] ++ qDg (g k 1) ++ [62] ++ qDg (g k 2) ++ []))))) lnH ?_
          refine g_eqh (h' := (mO K h o L (upd (upd iv 7 0) 11 (nI (qQl (av 0) nq g (k + 1)).length)) (mu av 10 (qPut (av 10) 0 (qQl (av 0) nq g (k + 1)))))) (by simp only [qQl_s, hk0, cn, if_true, if_false, List.append_assoc]) ?_
          refine g_iinc (lv' := [(1, .int ((nI k) + 1)), (0, .ref o)]) (v := (nI k) + 1) F dX4_cueLine_98 (k := 1) rfl rfl (by decide) rfl ?_
          refine g_goto (tgt := 12) F dX4_cueLine_101 (by decide) ?_
          refine g_lv (lv' := [(0, .ref o), (1, .int ((nI k) + 1))]) [1, 0] rfl ?_
          exact g_eql (lv' := [(0, .ref o), (1, .int (nI (k + 1)))]) (by simp only [nI_1]) (ih hlt)
        · have cn : xNext (av 0) nq = some k := (xNextI_eq hlt hq).mp c23
          refine g_ldcS (i := 70) (id := 5) F rfl dX4_cueLine_88 ?_
          refine g_goto (tgt := 95) F dX4_cueLine_90 (by decide) ?_
          have t25 := (ct_X4_says (l := [42]) (n := (qQl (av 0) nq g k ++ [44, 32] ++ qDg (g k 0) ++ [58] ++ qDg (g k 1) ++ [62] ++ qDg (g k 2)).length) (iv := upd (upd iv 7 0) 11 (nI (qQl (av 0) nq g k ++ [44, 32] ++ qDg (g k 0) ++ [58] ++ qDg (g k 1) ++ [62] ++ qDg (g k 2)).length)) (av := mu av 10 (qPut (av 10) 0 (qQl (av 0) nq g k ++ [44, 32] ++ qDg (g k 0) ++ [58] ++ qDg (g k 1) ++ [62] ++ qDg (g k 2)))) (h := h) hN (hS 5 (by decide)) pk_us (by simp only [qE, qLn0, List.length_append, List.length_cons, List.length_nil]; omega) (by decide))
          refine g_callV F dX4_cueLine_95 mi_X4_says q2585 q2587 qs58 gc_X4 mO_o t25 rfl rfl (nle rfl) (nle rfl) (nle rfl) (g_purv ?_) g_purvX
          refine g_eqh (h' := (mO K h o L (upd (upd iv 7 0) 11 (nI (qQl (av 0) nq g k ++ [44, 32] ++ qDg (g k 0) ++ [58] ++ qDg (g k 1) ++ [62] ++ qDg (g k 2) ++ [42]).length)) (mu av 10 (qPut (av 10) 0 (qQl (av 0) nq g k ++ [44, 32] ++ qDg (g k 0) ++ [58] ++ qDg (g k 1) ++ [62] ++ qDg (g k 2) ++ [42]))))) lnH ?_
          refine g_eqh (h' := (mO K h o L (upd (upd iv 7 0) 11 (nI (qQl (av 0) nq g (k + 1)).length)) (mu av 10 (qPut (av 10) 0 (qQl (av 0) nq g (k + 1)))))) (by simp only [qQl_s, hk0, cn, if_true, if_false, List.append_assoc]) ?_
          refine g_iinc (lv' := [(1, .int ((nI k) + 1)), (0, .ref o)]) (v := (nI k) + 1) F dX4_cueLine_98 (k := 1) rfl rfl (by decide) rfl ?_
          refine g_goto (tgt := 12) F dX4_cueLine_101 (by decide) ?_
          refine g_lv (lv' := [(0, .ref o), (1, .int ((nI k) + 1))]) [1, 0] rfl ?_
          exact g_eql (lv' := [(0, .ref o), (1, .int (nI (k + 1)))]) (by simp only [nI_1]) (ih hlt)
  exact lp 0 (Nat.zero_le _)
set_option maxHeartbeats 4000000 in
set_option maxRecDepth 100000 in
theorem ct_X4_character0 {K : gK} {h : AH} {o : Nat} {L : Nat → Nat} {iv : Nat → Int32} {av : Nat → Nat → Int32} (hN : mN K o L) {x : Int32} {n : Nat} (h11 : iv 11 = nI n) (hx : mIn x 0 (nI n - 1) = 0) : gCt K yX4_character w_X4_character 1 22 0 0 (mO K h o L iv av) [.ref o, .int x] (pR (.int 32) (mO K h o L (upd iv 7 1) av)) := by
  refine g_meth pf_X4_character (nle rfl) (fun p e s m args below meth c F hnm htb => ?_)
  have F : gFix K p s m args meth c cX4_character 2 RX4 (some .char) := F
  refine g_eql (lv' := [(0, .ref o), (1, .int x)]) rfl ?_
  refine g_aload_n F dX4_character_0 0 rfl rfl ?_
  refine g_iload_n F dX4_character_1 1 rfl rfl ?_
  refine g_iconst (v := 0) F dX4_character_2 rfl ?_
  refine g_aload_n F dX4_character_3 0 rfl rfl ?_
  refine gf_X4_209_X4 (v := .int (iv 11)) F dX4_character_4 mO_o rfl ?_
  refine g_eqs (st' := [.int (nI n), .int 0, .int x, .ref o]) (by rw [h11]) ?_
  refine g_iconst (v := 1) F dX4_character_7 rfl ?_
  refine g_isub F dX4_character_8 ?_
  refine g_callS F dX4_character_9 mi_X4_in q2346 q2347 ct_X4_in rfl rfl (nle rfl) (nle rfl) (nle rfl) (g_pur ?_) g_purX
  refine g_if_eq (tgt := 19) F dX4_character_12 (by decide) (fun c1 => ?_) (fun c1 => absurd hx c1)
  refine g_iconst (v := 1) F dX4_character_19 rfl ?_
  refine gp_X4_69_X4 F dX4_character_20 mO_o hN.1 (nle rfl) rfl (fun h_e2 e2 => ?_)
  refine g_mput (iv2 := upd iv 7 1) e2 rfl ?_
  refine g_aload_n F dX4_character_23 0 rfl rfl ?_
  refine gf_X4_69_X4 (v := .int 1) F dX4_character_24 mO_o rfl ?_
  refine g_if_le (tgt := 35) F dX4_character_27 (by decide) (fun c3 => absurd c3 (by decide)) (fun c3 => ?_)
  refine g_bipush (v := 32) F dX4_character_30 rfl ?_
  refine g_goto (tgt := 41) F dX4_character_32 (by decide) ?_
  exact g_zret F dX4_character_41 (by first | rfl | exact mIn_n | (split <;> rfl) | decide) (⟨rfl, rfl⟩)
set_option maxHeartbeats 4000000 in
set_option maxRecDepth 100000 in
theorem ct_X4_character {K : gK} {h : AH} {o : Nat} {L : Nat → Nat} {iv : Nat → Int32} {av : Nat → Nat → Int32} (hN : mN K o L) {n i : Nat} (h11 : iv 11 = nI n) (hn : n ≤ 200) (hi : i < n) (hcc : ∃ c, c < 128 ∧ av 10 i = nI c) : gCt K yX4_character w_X4_character 1 22 0 0 (mO K h o L iv av) [.ref o, .int (nI i)] (pR (.int (av 10 i)) (mO K h o L (upd iv 7 0) av)) := by
  refine g_meth pf_X4_character (nle rfl) (fun p e s m args below meth c F hnm htb => ?_)
  have F : gFix K p s m args meth c cX4_character 2 RX4 (some .char) := F
  refine g_eql (lv' := [(0, .ref o), (1, .int (nI i))]) rfl ?_
  refine g_aload_n F dX4_character_0 0 rfl rfl ?_
  refine g_iload_n F dX4_character_1 1 rfl rfl ?_
  refine g_iconst (v := 0) F dX4_character_2 rfl ?_
  refine g_aload_n F dX4_character_3 0 rfl rfl ?_
  refine gf_X4_209_X4 (v := .int (iv 11)) F dX4_character_4 mO_o rfl ?_
  refine g_eqs (st' := [.int (nI n), .int 0, .int (nI i), .ref o]) (by rw [h11]) ?_
  refine g_iconst (v := 1) F dX4_character_7 rfl ?_
  refine g_isub F dX4_character_8 ?_
  refine g_callS F dX4_character_9 mi_X4_in q2346 q2347 ct_X4_in rfl rfl (nle rfl) (nle rfl) (nle rfl) (g_pur ?_) g_purX
  refine g_if_eq (tgt := 19) F dX4_character_12 (by decide) (fun c1 => absurd c1 (by rw [xAt_n (by omega) hi]; decide)) (fun c1 => ?_)
  refine g_iconst (v := 0) F dX4_character_15 rfl ?_
  refine g_goto (tgt := 20) F dX4_character_16 (by decide) ?_
  refine gp_X4_69_X4 F dX4_character_20 mO_o hN.1 (nle rfl) rfl (fun h_e2 e2 => ?_)
  refine g_mput (iv2 := upd iv 7 0) e2 rfl ?_
  refine g_aload_n F dX4_character_23 0 rfl rfl ?_
  refine gf_X4_69_X4 (v := .int 0) F dX4_character_24 mO_o rfl ?_
  refine g_if_le (tgt := 35) F dX4_character_27 (by decide) (fun c3 => ?_) (fun c3 => absurd c3 (by decide))
  refine g_aload_n F dX4_character_35 0 rfl rfl ?_
  refine gf_X4_25_X4 (v := .ref (L 10)) F dX4_character_36 mO_o rfl ?_
  refine g_iload_n F dX4_character_39 1 rfl rfl ?_
  refine g_caldN (i := i) F (mO_10 hN) rfl (show i = i by omega) (by omega) (by decide) dX4_character_40 ?_
  exact g_zret F dX4_character_41 (by obtain ⟨c, hc, hcc⟩ := hcc; rw [hcc]; exact (pk_charN (by omega)).1) (⟨rfl, rfl⟩)
