/-! ===== THE REFERENCE: does, read (written by tools/model12.py) ===== -/
set_option maxHeartbeats 4000000 in
set_option maxRecDepth 100000 in
theorem ct_X4_readItemW {K : gK} {h : AH} {o : Nat} {L : Nat → Nat} {iv : Nat → Int32} {av : Nat → Nat → Int32} (hN : mN K o L) {pl im : Nat} (hp : pl < 1000) : gCt K yX4_readItem w_X4_readItem 5 107 0 0 (mO K h o L (pIv iv pl 1 im) av) [.ref o] (pV (mO K h o L (pIv iv pl 1 im) av)) := by
  refine g_meth pf_X4_readItem (nle rfl) (fun p e s m args below meth c F hnm htb => ?_)
  have F : gFix K p s m args meth c cX4_readItem 5 RX4 none := F
  refine g_eql (lv' := [(0, .ref o)]) rfl ?_
  refine g_iconst (v := 0) F dX4_readItem_0 rfl ?_
  refine g_istore_n (lv' := [(1, .int 0), (0, .ref o)]) F dX4_readItem_1 rfl (by decide) rfl ?_
  refine g_iconst (v := (-1)) F dX4_readItem_2 rfl ?_
  refine g_istore_n (lv' := [(2, .int (-1)), (1, .int 0), (0, .ref o)]) F dX4_readItem_3 rfl (by decide) rfl ?_
  refine g_iconst (v := 0) F dX4_readItem_4 rfl ?_
  refine g_istore_n (lv' := [(3, .int 0), (2, .int (-1)), (1, .int 0), (0, .ref o)]) F dX4_readItem_5 rfl (by decide) rfl ?_
  refine g_iload_n F dX4_readItem_6 0 rfl rfl ?_
  refine g_aload_n F dX4_readItem_7 3 rfl rfl ?_
  refine gf_X4_49_X4 (v := .ref (L 12)) F dX4_readItem_8 mO_o rfl ?_
  refine g_alen F (by decide) (mO_12 hN) dX4_readItem_11 ?_
  refine g_icmp_ge (tgt := 67) F dX4_readItem_12 (by decide) (fun c1 => absurd c1 (by decide)) (fun c1 => ?_)
  refine g_aload_n F dX4_readItem_15 3 rfl rfl ?_
  refine gf_X4_255_X4 (v := .int ((pIv iv pl 1 im) 16)) F dX4_readItem_16 mO_o rfl ?_
  refine g_eqs (st' := [.int 1]) (congrArg (fun z => [Value.int z]) pIv_16) ?_
  refine g_if_ne (tgt := 67) F dX4_readItem_19 (by decide) (fun c2 => ?_) (fun c2 => absurd c2 (by decide))
  refine g_aload_n F dX4_readItem_67 3 rfl rfl ?_
  refine g_dup F dX4_readItem_68 rfl ?_
  refine gf_X4_259_X4 (v := .int ((pIv iv pl 1 im) 15)) F dX4_readItem_69 mO_o rfl ?_
  refine g_eqs (st' := [.int (nI pl), .ref o]) (congrArg (fun z => [Value.int z, .ref o]) pIv_15) ?_
  refine g_iload_n F dX4_readItem_72 2 rfl rfl ?_
  refine g_iadd F dX4_readItem_73 ?_
  refine gp_X4_259_X4 F dX4_readItem_74 mO_o hN.1 (nle rfl) rfl (fun h_e3 e3 => ?_)
  refine g_mput (iv2 := upd (pIv iv pl 1 im) 15 ((nI pl) + 0)) e3 rfl ?_
  refine g_eqh (h' := (mO K h o L (pIv iv pl 1 im) av)) (by rw [Int32.add_zero, pIv_p]) ?_
  refine g_aload_n F dX4_readItem_77 3 rfl rfl ?_
  refine g_iload_n F dX4_readItem_78 1 rfl rfl ?_
  refine g_if_ge (tgt := 86) F dX4_readItem_79 (by decide) (fun c4 => absurd c4 (by decide)) (fun c4 => ?_)
  refine g_iconst (v := 1) F dX4_readItem_82 rfl ?_
  refine g_goto (tgt := 87) F dX4_readItem_83 (by decide) ?_
  refine gp_X4_255_X4 F dX4_readItem_87 (by first | rfl | decide | (split <;> rfl)) (by first | rfl | decide | (split <;> rfl)) mO_o hN.1 (nle rfl) rfl (fun h_e5 e5 => ?_)
  refine g_mput (iv2 := upd (pIv iv pl 1 im) 16 1) e5 rfl ?_
  refine g_eqh (h' := (mO K h o L (pIv iv pl 1 im) av)) (by rw [pIv_w]) ?_
  refine g_aload_n F dX4_readItem_90 3 rfl rfl ?_
  refine gf_X4_255_X4 (v := .int ((pIv iv pl 1 im) 16)) F dX4_readItem_91 mO_o rfl ?_
  refine g_eqs (st' := [.int 1]) (congrArg (fun z => [Value.int z]) pIv_16) ?_
  refine g_if_eq (tgt := 98) F dX4_readItem_94 (by decide) (fun c6 => absurd c6 (by decide)) (fun c6 => ?_)
  exact g_vret F dX4_readItem_97 (⟨rfl, rfl⟩)
theorem ct_X4_readItemA {K : gK} {h : AH} {o : Nat} {L : Nat → Nat} {iv : Nat → Int32} {av : Nat → Nat → Int32} (hN : mN K o L) {n pl im : Nat} {w : Int32} {it : Nat → Int32} (hS : gKS K) (h14 : iv 14 = nI n) (hn : n ≤ 60) (hp : pl < 1000) (him : im < 60) (hw : w = 0 ∨ w = 1) : gCt K yX4_readItem w_X4_readItem 5 107 0 0 (mO K h o L (pIv iv pl w im) (mu av 19 it)) [.ref o] (pV (mO K h o L (pIv iv (riP (av 13) n pl w im it).1 (riP (av 13) n pl w im it).2.1 (riP (av 13) n pl w im it).2.2.1) (mu av 19 (riP (av 13) n pl w im it).2.2.2))) := by
  rcases hw with rfl | rfl
  · have t := ct_X4_readItem (h := h) (iv := iv) (av := mu av 19 it) hN hS h14 hn hp him
    rw [mu_mu] at t
    exact t
  · have t := ct_X4_readItemW (h := h) (iv := iv) (av := mu av 19 it) (im := im) hN hp
    rw [riP_w (by decide)]
    exact t

set_option maxHeartbeats 4000000 in
set_option maxRecDepth 100000 in
theorem ct_X4_does {K : gK} {h : AH} {o : Nat} {L : Nat → Nat} {iv : Nat → Int32} {av : Nat → Nat → Int32} (hN : mN K o L) {i j : Nat} (hi : i < 60) (hj : av 19 (3 * i) = nI j) (hj9 : j < 9) {nb nc nh nq : Nat} (hC : mC (av 0) nb nc nh nq) (hL : mL (av 0) nb nc nq) : gCt K yX4_does w_X4_does 6 134 0 0 (mO K h o L iv av) [.ref o, .int (nI i)] (pV (mO K h o L (xIv iv (xDo (av 0) nb nc nh nq j (av 19 (1 + 3 * i)) (av 19 (2 + 3 * i)))) (xAv av (xDo (av 0) nb nc nh nq j (av 19 (1 + 3 * i)) (av 19 (2 + 3 * i)))))) := by
  refine g_meth pf_X4_does (nle rfl) (fun p e s m args below meth c F hnm htb => ?_)
  have F : gFix K p s m args meth c cX4_does 5 RX4 none := F
  refine g_eql (lv' := [(0, .ref o), (1, .int (nI i))]) rfl ?_
  refine g_aload_n F dX4_does_0 0 rfl rfl ?_
  refine gf_X4_63_X4 (v := .ref (L 19)) F dX4_does_1 mO_o rfl ?_
  refine g_iconst (v := 3) F dX4_does_4 rfl ?_
  refine g_iload_n F dX4_does_5 1 rfl rfl ?_
  refine g_imul F dX4_does_6 ?_
  refine g_iconst (v := 1) F dX4_does_7 rfl ?_
  refine g_iadd F dX4_does_8 ?_
  refine g_ialdN (i := 1 + 3 * i) F (mO_19 hN) (nadd (nmul (rfl : (3 : Int32) = nI 3) rfl) (rfl : (1 : Int32) = nI 1)) (show ((3 * i) + 1) = 1 + 3 * i by omega) (by omega) (by decide) dX4_does_9 ?_
  refine g_istore_n (lv' := [(2, .int (av 19 (1 + 3 * i))), (0, .ref o), (1, .int (nI i))]) F dX4_does_10 rfl (by decide) rfl ?_
  refine g_aload_n F dX4_does_11 1 rfl rfl ?_
  refine gf_X4_63_X4 (v := .ref (L 19)) F dX4_does_12 mO_o rfl ?_
  refine g_iconst (v := 3) F dX4_does_15 rfl ?_
  refine g_iload_n F dX4_does_16 2 rfl rfl ?_
  refine g_imul F dX4_does_17 ?_
  refine g_iconst (v := 2) F dX4_does_18 rfl ?_
  refine g_iadd F dX4_does_19 ?_
  refine g_ialdN (i := 2 + 3 * i) F (mO_19 hN) (nadd (nmul (rfl : (3 : Int32) = nI 3) rfl) (rfl : (2 : Int32) = nI 2)) (show ((3 * i) + 2) = 2 + 3 * i by omega) (by omega) (by decide) dX4_does_20 ?_
  refine g_istore_n (lv' := [(3, .int (av 19 (2 + 3 * i))), (2, .int (av 19 (1 + 3 * i))), (0, .ref o), (1, .int (nI i))]) F dX4_does_21 rfl (by decide) rfl ?_
  refine g_aload_n F dX4_does_22 2 rfl rfl ?_
  refine gf_X4_63_X4 (v := .ref (L 19)) F dX4_does_23 mO_o rfl ?_
  refine g_iconst (v := 3) F dX4_does_26 rfl ?_
  refine g_iload_n F dX4_does_27 3 rfl rfl ?_
  refine g_imul F dX4_does_28 ?_
  refine g_ialdN (i := 3 * i) F (mO_19 hN) (nmul (rfl : (3 : Int32) = nI 3) rfl) (show (3 * i) = 3 * i by omega) (by omega) (by decide) dX4_does_29 ?_
  have hjo : j = 0 ∨ j = 1 ∨ j = 2 ∨ j = 3 ∨ j = 4 ∨ j = 5 ∨ j = 6 ∨ j = 7 ∨ j = 8 := by omega
  rcases hjo with rfl | rfl | rfl | rfl | rfl | rfl | rfl | rfl | rfl
  · refine g_eqs (st' := [.int 0]) (by rw [hj]; rfl) ?_
    refine g_tableIn (off := 46) (tgt := 76) F dX4_does_30 (by decide) (by decide) rfl (by decide) ?_
    refine g_aload_n F dX4_does_76 2 rfl rfl ?_
    refine g_iload_n F dX4_does_77 1 rfl rfl ?_
    refine g_iload_n F dX4_does_78 0 rfl rfl ?_
    refine g_callV F dX4_does_79 mi_X4_doHang q2443 q2445 qs41 gc_X4 mO_o (ct_X4_doHang (h := h) (iv := iv) (av := av) hN hC hL) rfl rfl (nle rfl) (nle rfl) (nle rfl) (g_pur ?_) g_purX
    refine g_istore (lv' := [(4, .int (xRet (xHang (av 0) nb nc (av 19 (1 + 3 * i)) (av 19 (2 + 3 * i))))), (3, .int (av 19 (2 + 3 * i))), (2, .int (av 19 (1 + 3 * i))), (0, .ref o), (1, .int (nI i))]) F dX4_does_82 (by decide) rfl ?_
    refine g_goto (tgt := 169) F dX4_does_84 (by decide) ?_
    exact g_vret F dX4_does_169 (⟨rfl, rfl⟩)
  · refine g_eqs (st' := [.int 1]) (by rw [hj]; rfl) ?_
    refine g_tableIn (off := 57) (tgt := 87) F dX4_does_30 (by decide) (by decide) rfl (by decide) ?_
    refine g_aload_n F dX4_does_87 2 rfl rfl ?_
    refine g_iload_n F dX4_does_88 1 rfl rfl ?_
    refine g_callV F dX4_does_89 mi_X4_doDrop q2451 q2453 qs42 gc_X4 mO_o (ct_X4_doDrop (h := h) (iv := iv) (av := av) hN hC hL) rfl rfl (nle rfl) (nle rfl) (nle rfl) (g_pur ?_) g_purX
    refine g_istore (lv' := [(4, .int (xRet (xDrop (av 0) nc (av 19 (1 + 3 * i))))), (3, .int (av 19 (2 + 3 * i))), (2, .int (av 19 (1 + 3 * i))), (0, .ref o), (1, .int (nI i))]) F dX4_does_92 (by decide) rfl ?_
    refine g_goto (tgt := 169) F dX4_does_94 (by decide) ?_
    exact g_vret F dX4_does_169 (⟨rfl, rfl⟩)
  · refine g_eqs (st' := [.int 2]) (by rw [hj]; rfl) ?_
    refine g_tableIn (off := 67) (tgt := 97) F dX4_does_30 (by decide) (by decide) rfl (by decide) ?_
    refine g_aload_n F dX4_does_97 2 rfl rfl ?_
    refine g_iload_n F dX4_does_98 1 rfl rfl ?_
    refine g_iload_n F dX4_does_99 0 rfl rfl ?_
    refine g_callV F dX4_does_100 mi_X4_doWeights q2459 q2461 qs43 gc_X4 mO_o (ct_X4_doWeights (h := h) (iv := iv) (av := av) hN hC hL) rfl rfl (nle rfl) (nle rfl) (nle rfl) (g_pur ?_) g_purX
    refine g_istore (lv' := [(4, .int (xRet (xWts (av 0) nb (av 19 (1 + 3 * i)) (av 19 (2 + 3 * i))))), (3, .int (av 19 (2 + 3 * i))), (2, .int (av 19 (1 + 3 * i))), (0, .ref o), (1, .int (nI i))]) F dX4_does_103 (by decide) rfl ?_
    refine g_goto (tgt := 169) F dX4_does_105 (by decide) ?_
    exact g_vret F dX4_does_169 (⟨rfl, rfl⟩)
  · refine g_eqs (st' := [.int 3]) (by rw [hj]; rfl) ?_
    refine g_tableIn (off := 78) (tgt := 108) F dX4_does_30 (by decide) (by decide) rfl (by decide) ?_
    refine g_aload_n F dX4_does_108 2 rfl rfl ?_
    refine g_iload_n F dX4_does_109 1 rfl rfl ?_
    refine g_iload_n F dX4_does_110 0 rfl rfl ?_
    refine g_ineg F dX4_does_111 ?_
    refine g_callV F dX4_does_112 mi_X4_doWeights q2459 q2461 qs43 gc_X4 mO_o (ct_X4_doWeights (h := h) (iv := iv) (av := av) hN hC hL) rfl rfl (nle rfl) (nle rfl) (nle rfl) (g_pur ?_) g_purX
    refine g_istore (lv' := [(4, .int (xRet (xWts (av 0) nb (av 19 (1 + 3 * i)) (-(av 19 (2 + 3 * i)))))), (3, .int (av 19 (2 + 3 * i))), (2, .int (av 19 (1 + 3 * i))), (0, .ref o), (1, .int (nI i))]) F dX4_does_115 (by decide) rfl ?_
    refine g_goto (tgt := 169) F dX4_does_117 (by decide) ?_
    exact g_vret F dX4_does_169 (⟨rfl, rfl⟩)
  · refine g_eqs (st' := [.int 4]) (by rw [hj]; rfl) ?_
    refine g_tableIn (off := 90) (tgt := 120) F dX4_does_30 (by decide) (by decide) rfl (by decide) ?_
    refine g_aload_n F dX4_does_120 2 rfl rfl ?_
    refine g_iload_n F dX4_does_121 1 rfl rfl ?_
    refine g_iload_n F dX4_does_122 0 rfl rfl ?_
    refine g_callV F dX4_does_123 mi_X4_doFly q2524 q2526 qs50 gc_X4 mO_o (ct_X4_doFly (h := h) (iv := iv) (av := av) hN hC hL) rfl rfl (nle rfl) (nle rfl) (nle rfl) (g_pur ?_) g_purX
    refine g_istore (lv' := [(4, .int (xRet (xFly (av 0) nb nc nh (av 19 (1 + 3 * i)) (av 19 (2 + 3 * i))))), (3, .int (av 19 (2 + 3 * i))), (2, .int (av 19 (1 + 3 * i))), (0, .ref o), (1, .int (nI i))]) F dX4_does_126 (by decide) rfl ?_
    refine g_goto (tgt := 169) F dX4_does_128 (by decide) ?_
    exact g_vret F dX4_does_169 (⟨rfl, rfl⟩)
  · refine g_eqs (st' := [.int 5]) (by rw [hj]; rfl) ?_
    refine g_tableIn (off := 101) (tgt := 131) F dX4_does_30 (by decide) (by decide) rfl (by decide) ?_
    refine g_aload_n F dX4_does_131 2 rfl rfl ?_
    refine g_callV F dX4_does_132 mi_X4_doGo q2568 q2570 qs56 gc_X4 mO_o (ct_X4_doGo (h := h) (iv := iv) (av := av) hN hC hL) rfl rfl (nle rfl) (nle rfl) (nle rfl) (g_pur ?_) g_purX
    refine g_istore (lv' := [(4, .int (xRet (xGo (av 0) nc nh nq))), (3, .int (av 19 (2 + 3 * i))), (2, .int (av 19 (1 + 3 * i))), (0, .ref o), (1, .int (nI i))]) F dX4_does_135 (by decide) rfl ?_
    refine g_goto (tgt := 169) F dX4_does_137 (by decide) ?_
    exact g_vret F dX4_does_169 (⟨rfl, rfl⟩)
  · refine g_eqs (st' := [.int 6]) (by rw [hj]; rfl) ?_
    refine g_tableIn (off := 110) (tgt := 140) F dX4_does_30 (by decide) (by decide) rfl (by decide) ?_
    refine g_aload_n F dX4_does_140 2 rfl rfl ?_
    refine g_iload_n F dX4_does_141 1 rfl rfl ?_
    refine g_iconst (v := 1) F dX4_does_142 rfl ?_
    refine g_callV F dX4_does_143 mi_X4_doDoor q2504 q2506 qs47 gc_X4 mO_o (ct_X4_doDoor (h := h) (iv := iv) (av := av) hN hC hL) rfl rfl (nle rfl) (nle rfl) (nle rfl) (g_pur ?_) g_purX
    refine g_istore (lv' := [(4, .int (xRet (xDoor (av 0) (av 19 (1 + 3 * i)) (if (1 : Int32) = 0 then 0 else 1)))), (3, .int (av 19 (2 + 3 * i))), (2, .int (av 19 (1 + 3 * i))), (0, .ref o), (1, .int (nI i))]) F dX4_does_146 (by decide) rfl ?_
    refine g_goto (tgt := 169) F dX4_does_148 (by decide) ?_
    exact g_vret F dX4_does_169 (⟨rfl, rfl⟩)
  · refine g_eqs (st' := [.int 7]) (by rw [hj]; rfl) ?_
    refine g_tableIn (off := 121) (tgt := 151) F dX4_does_30 (by decide) (by decide) rfl (by decide) ?_
    refine g_aload_n F dX4_does_151 2 rfl rfl ?_
    refine g_iload_n F dX4_does_152 1 rfl rfl ?_
    refine g_iconst (v := 0) F dX4_does_153 rfl ?_
    refine g_callV F dX4_does_154 mi_X4_doDoor q2504 q2506 qs47 gc_X4 mO_o (ct_X4_doDoor (h := h) (iv := iv) (av := av) hN hC hL) rfl rfl (nle rfl) (nle rfl) (nle rfl) (g_pur ?_) g_purX
    refine g_istore (lv' := [(4, .int (xRet (xDoor (av 0) (av 19 (1 + 3 * i)) (if (0 : Int32) = 0 then 0 else 1)))), (3, .int (av 19 (2 + 3 * i))), (2, .int (av 19 (1 + 3 * i))), (0, .ref o), (1, .int (nI i))]) F dX4_does_157 (by decide) rfl ?_
    refine g_goto (tgt := 169) F dX4_does_159 (by decide) ?_
    exact g_vret F dX4_does_169 (⟨rfl, rfl⟩)
  · refine g_eqs (st' := [.int 8]) (by rw [hj]; rfl) ?_
    refine g_tableOut (tgt := 162) F dX4_does_30 (by decide) (by decide) ?_
    refine g_aload_n F dX4_does_162 2 rfl rfl ?_
    refine g_iconst (v := 1) F dX4_does_163 rfl ?_
    refine g_callV F dX4_does_164 mi_X4_doYear q2415 q2417 qs38 gc_X4 mO_o (ct_X4_doYear (h := h) (iv := iv) (av := av) hN hC hL) rfl rfl (nle rfl) (nle rfl) (nle rfl) (g_pur ?_) g_purX
    refine g_istore (lv' := [(4, .int (xRet (xYear (av 0) nb nc 1))), (3, .int (av 19 (2 + 3 * i))), (2, .int (av 19 (1 + 3 * i))), (0, .ref o), (1, .int (nI i))]) F dX4_does_167 (by decide) rfl ?_
    exact g_vret F dX4_does_169 (⟨rfl, rfl⟩)
