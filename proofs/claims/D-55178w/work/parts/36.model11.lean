/-! ===== THE REFERENCE: readItem (written by tools/model11.py) ===== -/
set_option maxHeartbeats 4000000 in
set_option maxRecDepth 100000 in
theorem ct_X4_readItem {K : gK} {h : AH} {o : Nat} {L : Nat → Nat} {iv : Nat → Int32} {av : Nat → Nat → Int32} (hN : mN K o L) {n pl im : Nat} (hS : gKS K) (h14 : iv 14 = nI n) (hn : n ≤ 60) (hp : pl < 1000) (him : im < 60) : gCt K yX4_readItem w_X4_readItem 5 107 0 0 (mO K h o L (pIv iv pl 0 im) av) [.ref o] (pV (mO K h o L (pIv iv (riP (av 13) n pl 0 im (av 19)).1 (riP (av 13) n pl 0 im (av 19)).2.1 (riP (av 13) n pl 0 im (av 19)).2.2.1) (mu av 19 (riP (av 13) n pl 0 im (av 19)).2.2.2))) := by
  refine g_meth pf_X4_readItem (nle rfl) (fun p e s m args below meth c F hnm htb => ?_)
  have F : gFix K p s m args meth c cX4_readItem 5 RX4 none := F
  refine g_eql (lv' := [(0, .ref o)]) rfl ?_
  refine g_iconst (v := 0) F dX4_readItem_0 rfl ?_
  refine g_istore_n (lv' := [(1, .int 0), (0, .ref o)]) F dX4_readItem_1 rfl (by decide) rfl ?_
  refine g_iconst (v := (-1)) F dX4_readItem_2 rfl ?_
  refine g_istore_n (lv' := [(2, .int (-1)), (1, .int 0), (0, .ref o)]) F dX4_readItem_3 rfl (by decide) rfl ?_
  refine g_iconst (v := 0) F dX4_readItem_4 rfl ?_
  refine g_istore_n (lv' := [(3, .int 0), (2, .int (-1)), (1, .int 0), (0, .ref o)]) F dX4_readItem_5 rfl (by decide) rfl ?_
  refine g_lv (lv' := [(0, .ref o), (1, .int 0), (2, .int (-1)), (3, .int 0)]) [3, 2, 1, 0] rfl ?_
  have lp : ∀ k, k ≤ 9 → G K p e s m args below meth c (gRm 5 107 0 0) 5 (pV (mO K h o L (pIv iv (riP (av 13) n pl 0 im (av 19)).1 (riP (av 13) n pl 0 im (av 19)).2.1 (riP (av 13) n pl 0 im (av 19)).2.2.1) (mu av 19 (riP (av 13) n pl 0 im (av 19)).2.2.2))) (mO K h o L (pIv iv pl 0 im) av) 0 0 6 [(0, .ref o), (1, .int (nI ((wdP (av 13) n pl k).2))), (2, .int ((wdP (av 13) n pl k).1)), (3, .int (nI k))] [] := by
    refine gloop 9 (fun k hk ih => ?_)
    refine g_iload_n F dX4_readItem_6 3 rfl rfl ?_
    refine g_aload_n F dX4_readItem_7 0 rfl rfl ?_
    refine gf_X4_49_X4 (v := .ref (L 12)) F dX4_readItem_8 mO_o rfl ?_
    refine g_alen F (by decide) (mO_12 hN) dX4_readItem_11 ?_
    refine g_icmp_ge (tgt := 67) F dX4_readItem_12 (by decide) (fun c1 => ?_) (fun c1 => ?_)
    · have hkN : k = 9 := gexit (by decide) hk c1
      refine g_lv (lv' := [(0, .ref o), (1, .int (nI ((wdP (av 13) n pl k).2))), (2, .int ((wdP (av 13) n pl k).1))]) [0, 1, 2] rfl ?_
      refine g_eql (lv' := [(0, .ref o), (1, .int (nI ((wdP (av 13) n pl 9).2))), (2, .int ((wdP (av 13) n pl 9).1))]) (by rw [hkN]) ?_
      refine g_aload_n F dX4_readItem_67 0 rfl rfl ?_
      refine g_dup F dX4_readItem_68 rfl ?_
      refine gf_X4_259_X4 (v := .int ((pIv iv pl 0 im) 15)) F dX4_readItem_69 mO_o rfl ?_
      refine g_eqs (st' := [.int (nI pl), .ref o]) (congrArg (fun z => [Value.int z, .ref o]) pIv_15) ?_
      refine g_iload_n F dX4_readItem_72 1 rfl rfl ?_
      refine g_iadd F dX4_readItem_73 ?_
      refine gp_X4_259_X4 F dX4_readItem_74 mO_o hN.1 (nle rfl) rfl (fun h_e2 e2 => ?_)
      refine g_mput (iv2 := upd (pIv iv pl 0 im) 15 ((nI pl) + (nI ((wdP (av 13) n pl 9).2)))) e2 rfl ?_
      have hmo := wdP_m (t := av 13) (n := n) (p := pl) (k := 9) (Nat.le_refl _)
      refine g_eqh (h' := (mO K h o L (pIv iv (pl + (wdP (av 13) n pl 9).2) 0 im) av)) (by rw [nI_add, pIv_p]) ?_
      rcases wdP_c (t := av 13) (n := n) (p := pl) (k := 9) with hw9 | ⟨j, hj, hw9⟩
      · refine g_eql (lv' := [(0, .ref o), (1, .int (nI ((wdP (av 13) n pl 9).2))), (2, .int (-1))]) (by rw [hw9]) ?_
        refine g_aload_n F dX4_readItem_77 0 rfl rfl ?_
        refine g_iload_n F dX4_readItem_78 2 rfl rfl ?_
        refine g_if_ge (tgt := 86) F dX4_readItem_79 (by decide) (fun c3 => absurd c3 (by decide)) (fun c3 => ?_)
        refine g_iconst (v := 1) F dX4_readItem_82 rfl ?_
        refine g_goto (tgt := 87) F dX4_readItem_83 (by decide) ?_
        refine gp_X4_255_X4 F dX4_readItem_87 (by first | rfl | decide | (split <;> rfl)) (by first | rfl | decide | (split <;> rfl)) mO_o hN.1 (nle rfl) rfl (fun h_e4 e4 => ?_)
        refine g_mput (iv2 := upd (pIv iv (pl + (wdP (av 13) n pl 9).2) 0 im) 16 1) e4 rfl ?_
        refine g_eqh (h' := (mO K h o L (pIv iv (pl + (wdP (av 13) n pl 9).2) 1 im) av)) (by rw [pIv_w]) ?_
        refine g_aload_n F dX4_readItem_90 0 rfl rfl ?_
        refine gf_X4_255_X4 (v := .int ((pIv iv (pl + (wdP (av 13) n pl 9).2) 1 im) 16)) F dX4_readItem_91 mO_o rfl ?_
        refine g_eqs (st' := [.int 1]) (congrArg (fun z => [Value.int z]) pIv_16) ?_
        refine g_if_eq (tgt := 98) F dX4_readItem_94 (by decide) (fun c5 => absurd c5 (by decide)) (fun c5 => ?_)
        exact g_vret F dX4_readItem_97 (⟨rfl, by rw [riP_0 hw9]; show _ = mO K h o L _ (mu av 19 (av 19)); rw [mu_id]⟩)
      · have hjo : j = 0 ∨ j = 1 ∨ j = 2 ∨ j = 3 ∨ j = 4 ∨ j = 5 ∨ j = 6 ∨ j = 7 ∨ j = 8 := by omega
        rcases hjo with rfl | rfl | rfl | rfl | rfl | rfl | rfl | rfl | rfl
        · refine g_eql (lv' := [(0, .ref o), (1, .int (nI ((wdP (av 13) n pl 9).2))), (2, .int 0)]) (by rw [hw9]; rfl) ?_
          refine g_aload_n F dX4_readItem_77 0 rfl rfl ?_
          refine g_iload_n F dX4_readItem_78 2 rfl rfl ?_
          refine g_if_ge (tgt := 86) F dX4_readItem_79 (by decide) (fun c6 => ?_) (fun c6 => absurd c6 (by decide))
          refine g_iconst (v := 0) F dX4_readItem_86 rfl ?_
          refine gp_X4_255_X4 F dX4_readItem_87 (by first | rfl | decide | (split <;> rfl)) (by first | rfl | decide | (split <;> rfl)) mO_o hN.1 (nle rfl) rfl (fun h_e7 e7 => ?_)
          refine g_mput (iv2 := upd (pIv iv (pl + (wdP (av 13) n pl 9).2) 0 im) 16 0) e7 rfl ?_
          refine g_eqh (h' := (mO K h o L (pIv iv (pl + (wdP (av 13) n pl 9).2) 0 im) av)) (by rw [pIv_w]) ?_
          refine g_aload_n F dX4_readItem_90 0 rfl rfl ?_
          refine gf_X4_255_X4 (v := .int ((pIv iv (pl + (wdP (av 13) n pl 9).2) 0 im) 16)) F dX4_readItem_91 mO_o rfl ?_
          refine g_eqs (st' := [.int 0]) (congrArg (fun z => [Value.int z]) pIv_16) ?_
          refine g_if_eq (tgt := 98) F dX4_readItem_94 (by decide) (fun c8 => ?_) (fun c8 => absurd c8 (by decide))
          refine g_iconst (v := 3) F dX4_readItem_98 rfl ?_
          refine g_aload_n F dX4_readItem_99 0 rfl rfl ?_
          refine gf_X4_277_X4 (v := .int ((pIv iv (pl + (wdP (av 13) n pl 9).2) 0 im) 20)) F dX4_readItem_100 mO_o rfl ?_
          refine g_eqs (st' := [.int (nI im), .int 3]) (congrArg (fun z => [Value.int z, .int 3]) pIv_20) ?_
          refine g_imul F dX4_readItem_103 ?_
          refine g_istore_n (lv' := [(3, .int (3 * (nI im))), (0, .ref o), (1, .int (nI ((wdP (av 13) n pl 9).2))), (2, .int 0)]) F dX4_readItem_104 rfl (by decide) rfl ?_
          refine g_aload_n F dX4_readItem_105 1 rfl rfl ?_
          refine gf_X4_63_X4 (v := .ref (L 19)) F dX4_readItem_106 mO_o rfl ?_
          refine g_iload_n F dX4_readItem_109 0 rfl rfl ?_
          refine g_iload_n F dX4_readItem_110 3 rfl rfl ?_
          refine g_miast hN 19 (n := 180) (i := 3 * im) F (by decide) (by decide) rfl (mO_19 hN) (nmul (rfl : (3 : Int32) = nI 3) rfl) (show (3 * im) = 3 * im by omega) (by omega) (by decide) dX4_readItem_111 ?_
          refine g_aload_n F dX4_readItem_112 1 rfl rfl ?_
          refine gf_X4_63_X4 (v := .ref (L 19)) F dX4_readItem_113 mO_o rfl ?_
          refine g_iload_n F dX4_readItem_116 0 rfl rfl ?_
          refine g_iconst (v := 1) F dX4_readItem_117 rfl ?_
          refine g_iadd F dX4_readItem_118 ?_
          refine g_iload_n F dX4_readItem_119 3 rfl rfl ?_
          refine g_iconst (v := 2) F dX4_readItem_120 rfl ?_
          refine g_icmp_ge (tgt := 131) F dX4_readItem_121 (by decide) (fun c9 => absurd c9 (by decide)) (fun c9 => ?_)
          refine g_aload_n F dX4_readItem_124 1 rfl rfl ?_
          have t10 := ct_X4_number (h := h) (iv := iv) (av := mu av 19 (upd (av 19) (3 * im) 0)) (pl := pl + (wdP (av 13) n pl 9).2) (w := 0) (im := im) hN h14 hn (by omega)
          have t10l : (nmP (av 13) n (pl + (wdP (av 13) n pl 9).2) 0).1 ≤ pl + (wdP (av 13) n pl 9).2 + 2 := nmP_le
          obtain ⟨rt10, hrt10⟩ : ∃ r, r = (nmP (av 13) n (pl + (wdP (av 13) n pl 9).2) 0) := ⟨_, rfl⟩
          have t10 : gCt K yX4_number w_X4_number 4 86 0 0 (mO K h o L (pIv iv (pl + (wdP (av 13) n pl 9).2) 0 im) (mu av 19 (upd (av 19) (3 * im) 0))) [.ref o] (pR (.int rt10.2.2) (mO K h o L (pIv iv rt10.1 rt10.2.1 im) (mu av 19 (upd (av 19) (3 * im) 0)))) := by rw [hrt10]; exact t10
          rw [← hrt10] at t10l
          refine g_callV F dX4_readItem_125 mi_X4_number q2649 q2651 qs63 gc_X4 mO_o t10 rfl rfl (nle rfl) (nle rfl) (nle rfl) (g_pur ?_) g_purX
          refine g_goto (tgt := 150) F dX4_readItem_128 (by decide) ?_
          refine g_miast hN 19 (n := 180) (i := 1 + 3 * im) F (by decide) (by decide) rfl (mO_19 hN) (nadd (nmul (rfl : (3 : Int32) = nI 3) rfl) (rfl : (1 : Int32) = nI 1)) (show ((3 * im) + 1) = 1 + 3 * im by omega) (by omega) (by decide) dX4_readItem_150 ?_
          refine g_eqh (h' := (mO K h o L (pIv iv rt10.1 rt10.2.1 im) (mu av 19 (upd (upd (av 19) (3 * im) 0) (1 + 3 * im) rt10.2.2)))) (by simp only [mu_s, mu_mu]; try rfl) ?_
          refine g_iload_n F dX4_readItem_151 3 rfl rfl ?_
          refine g_if_eq (tgt := 165) F dX4_readItem_152 (by decide) (fun c11 => ?_) (fun c11 => absurd c11 (by decide))
          refine g_aload_n F dX4_readItem_165 1 rfl rfl ?_
          refine g_bipush (v := 32) F dX4_readItem_166 rfl ?_
          refine g_bipush (v := 32) F dX4_readItem_168 rfl ?_
          have t12 := ct_X4_sign (h := h) (iv := iv) (av := mu av 19 (upd (upd (av 19) (3 * im) 0) (1 + 3 * im) rt10.2.2)) (pl := rt10.1) (w := rt10.2.1) (im := im) (lo := 32) (hi := 32) hN h14 hn (by omega)
          have t12l : (sgP (av 13) n 32 32 rt10.1 rt10.2.1).1 ≤ rt10.1 + 1 := sgP_le
          obtain ⟨rt12, hrt12⟩ : ∃ r, r = (sgP (av 13) n 32 32 rt10.1 rt10.2.1) := ⟨_, rfl⟩
          have t12 : gCt K yX4_sign w_X4_sign 2 44 0 0 (mO K h o L (pIv iv rt10.1 rt10.2.1 im) (mu av 19 (upd (upd (av 19) (3 * im) 0) (1 + 3 * im) rt10.2.2))) [.ref o, .int 32, .int 32] (pR (.int rt12.2.2) (mO K h o L (pIv iv rt12.1 rt12.2.1 im) (mu av 19 (upd (upd (av 19) (3 * im) 0) (1 + 3 * im) rt10.2.2)))) := by rw [hrt12]; exact t12
          rw [← hrt12] at t12l
          refine g_callV F dX4_readItem_170 mi_X4_sign q2657 q2659 qs65 gc_X4 mO_o t12 rfl rfl (nle rfl) (nle rfl) (nle rfl) (g_pur ?_) g_purX
          refine g_istore (lv' := [(4, .int rt12.2.2), (3, .int (3 * (nI im))), (0, .ref o), (1, .int (nI ((wdP (av 13) n pl 9).2))), (2, .int 0)]) F dX4_readItem_173 (by decide) rfl ?_
          refine g_aload_n F dX4_readItem_175 2 rfl rfl ?_
          refine gf_X4_63_X4 (v := .ref (L 19)) F dX4_readItem_176 mO_o rfl ?_
          refine g_iload_n F dX4_readItem_179 1 rfl rfl ?_
          refine g_iconst (v := 2) F dX4_readItem_180 rfl ?_
          refine g_iadd F dX4_readItem_181 ?_
          refine g_iload_n F dX4_readItem_182 4 rfl rfl ?_
          refine g_if_ne (tgt := 193) F dX4_readItem_183 (by decide) (fun c13 => absurd c13 (by decide)) (fun c13 => ?_)
          refine g_aload_n F dX4_readItem_186 2 rfl rfl ?_
          have t14 := ct_X4_digit (h := h) (iv := iv) (av := mu av 19 (upd (upd (av 19) (3 * im) 0) (1 + 3 * im) rt10.2.2)) (pl := rt12.1) (w := rt12.2.1) (im := im) hN h14 hn (by omega)
          have t14l : (sgP (av 13) n 48 57 rt12.1 rt12.2.1).1 ≤ rt12.1 + 1 := sgP_le
          obtain ⟨rt14, hrt14⟩ : ∃ r, r = (sgP (av 13) n 48 57 rt12.1 rt12.2.1) := ⟨_, rfl⟩
          have t14 : gCt K yX4_digit w_X4_digit 3 66 0 0 (mO K h o L (pIv iv rt12.1 rt12.2.1 im) (mu av 19 (upd (upd (av 19) (3 * im) 0) (1 + 3 * im) rt10.2.2))) [.ref o] (pR (.int rt14.2.2) (mO K h o L (pIv iv rt14.1 rt14.2.1 im) (mu av 19 (upd (upd (av 19) (3 * im) 0) (1 + 3 * im) rt10.2.2)))) := by rw [hrt14]; exact t14
          rw [← hrt14] at t14l
          refine g_callV F dX4_readItem_187 mi_X4_digit q2653 q2655 qs64 gc_X4 mO_o t14 rfl rfl (nle rfl) (nle rfl) (nle rfl) (g_pur ?_) g_purX
          refine g_goto (tgt := 197) F dX4_readItem_190 (by decide) ?_
          refine g_miast hN 19 (n := 180) (i := 2 + 3 * im) F (by decide) (by decide) rfl (mO_19 hN) (nadd (nmul (rfl : (3 : Int32) = nI 3) rfl) (rfl : (2 : Int32) = nI 2)) (show ((3 * im) + 2) = 2 + 3 * im by omega) (by omega) (by decide) dX4_readItem_197 ?_
          refine g_eqh (h' := (mO K h o L (pIv iv rt14.1 rt14.2.1 im) (mu av 19 (upd (upd (upd (av 19) (3 * im) 0) (1 + 3 * im) rt10.2.2) (2 + 3 * im) rt14.2.2)))) (by simp only [mu_s, mu_mu]; try rfl) ?_
          refine g_aload_n F dX4_readItem_198 2 rfl rfl ?_
          refine g_dup F dX4_readItem_199 rfl ?_
          refine gf_X4_277_X4 (v := .int ((pIv iv rt14.1 rt14.2.1 im) 20)) F dX4_readItem_200 mO_o rfl ?_
          refine g_eqs (st' := [.int (nI im), .ref o]) (congrArg (fun z => [Value.int z, .ref o]) pIv_20) ?_
          refine g_iconst (v := 1) F dX4_readItem_203 rfl ?_
          refine g_iadd F dX4_readItem_204 ?_
          refine gp_X4_277_X4 F dX4_readItem_205 mO_o hN.1 (nle rfl) rfl (fun h_e15 e15 => ?_)
          refine g_mput (iv2 := upd (pIv iv rt14.1 rt14.2.1 im) 20 ((nI im) + 1)) e15 rfl ?_
          refine g_eqh (h' := (mO K h o L (pIv iv rt14.1 rt14.2.1 (im + 1)) (mu av 19 (upd (upd (upd (av 19) (3 * im) 0) (1 + 3 * im) rt10.2.2) (2 + 3 * im) rt14.2.2)))) (by rw [nI_1, pIv_m]) ?_
          have hR : riP (av 13) n pl 0 im (av 19) = (rt14.1, rt14.2.1, im + 1, upd (upd (upd (av 19) (3 * im) 0) (1 + 3 * im) rt10.2.2) (2 + 3 * im) rt14.2.2) := (riP_k (k := 0) hw9 (by decide)).trans (riK_0 hrt10 hrt12 hrt14)
          exact g_vret F dX4_readItem_208 (⟨rfl, by rw [hR]⟩)
        · refine g_eql (lv' := [(0, .ref o), (1, .int (nI ((wdP (av 13) n pl 9).2))), (2, .int 1)]) (by rw [hw9]; rfl) ?_
          refine g_aload_n F dX4_readItem_77 0 rfl rfl ?_
          refine g_iload_n F dX4_readItem_78 2 rfl rfl ?_
          refine g_if_ge (tgt := 86) F dX4_readItem_79 (by decide) (fun c16 => ?_) (fun c16 => absurd c16 (by decide))
          refine g_iconst (v := 0) F dX4_readItem_86 rfl ?_
          refine gp_X4_255_X4 F dX4_readItem_87 (by first | rfl | decide | (split <;> rfl)) (by first | rfl | decide | (split <;> rfl)) mO_o hN.1 (nle rfl) rfl (fun h_e17 e17 => ?_)
          refine g_mput (iv2 := upd (pIv iv (pl + (wdP (av 13) n pl 9).2) 0 im) 16 0) e17 rfl ?_
          refine g_eqh (h' := (mO K h o L (pIv iv (pl + (wdP (av 13) n pl 9).2) 0 im) av)) (by rw [pIv_w]) ?_
          refine g_aload_n F dX4_readItem_90 0 rfl rfl ?_
          refine gf_X4_255_X4 (v := .int ((pIv iv (pl + (wdP (av 13) n pl 9).2) 0 im) 16)) F dX4_readItem_91 mO_o rfl ?_
          refine g_eqs (st' := [.int 0]) (congrArg (fun z => [Value.int z]) pIv_16) ?_
          refine g_if_eq (tgt := 98) F dX4_readItem_94 (by decide) (fun c18 => ?_) (fun c18 => absurd c18 (by decide))
          refine g_iconst (v := 3) F dX4_readItem_98 rfl ?_
          refine g_aload_n F dX4_readItem_99 0 rfl rfl ?_
          refine gf_X4_277_X4 (v := .int ((pIv iv (pl + (wdP (av 13) n pl 9).2) 0 im) 20)) F dX4_readItem_100 mO_o rfl ?_
          refine g_eqs (st' := [.int (nI im), .int 3]) (congrArg (fun z => [Value.int z, .int 3]) pIv_20) ?_
          refine g_imul F dX4_readItem_103 ?_
          refine g_istore_n (lv' := [(3, .int (3 * (nI im))), (0, .ref o), (1, .int (nI ((wdP (av 13) n pl 9).2))), (2, .int 1)]) F dX4_readItem_104 rfl (by decide) rfl ?_
          refine g_aload_n F dX4_readItem_105 1 rfl rfl ?_
          refine gf_X4_63_X4 (v := .ref (L 19)) F dX4_readItem_106 mO_o rfl ?_
          refine g_iload_n F dX4_readItem_109 0 rfl rfl ?_
          refine g_iload_n F dX4_readItem_110 3 rfl rfl ?_
          refine g_miast hN 19 (n := 180) (i := 3 * im) F (by decide) (by decide) rfl (mO_19 hN) (nmul (rfl : (3 : Int32) = nI 3) rfl) (show (3 * im) = 3 * im by omega) (by omega) (by decide) dX4_readItem_111 ?_
          refine g_aload_n F dX4_readItem_112 1 rfl rfl ?_
          refine gf_X4_63_X4 (v := .ref (L 19)) F dX4_readItem_113 mO_o rfl ?_
          refine g_iload_n F dX4_readItem_116 0 rfl rfl ?_
          refine g_iconst (v := 1) F dX4_readItem_117 rfl ?_
          refine g_iadd F dX4_readItem_118 ?_
          refine g_iload_n F dX4_readItem_119 3 rfl rfl ?_
          refine g_iconst (v := 2) F dX4_readItem_120 rfl ?_
          refine g_icmp_ge (tgt := 131) F dX4_readItem_121 (by decide) (fun c19 => absurd c19 (by decide)) (fun c19 => ?_)
          refine g_aload_n F dX4_readItem_124 1 rfl rfl ?_
          have t20 := ct_X4_number (h := h) (iv := iv) (av := mu av 19 (upd (av 19) (3 * im) 1)) (pl := pl + (wdP (av 13) n pl 9).2) (w := 0) (im := im) hN h14 hn (by omega)
          have t20l : (nmP (av 13) n (pl + (wdP (av 13) n pl 9).2) 0).1 ≤ pl + (wdP (av 13) n pl 9).2 + 2 := nmP_le
          obtain ⟨rt20, hrt20⟩ : ∃ r, r = (nmP (av 13) n (pl + (wdP (av 13) n pl 9).2) 0) := ⟨_, rfl⟩
          have t20 : gCt K yX4_number w_X4_number 4 86 0 0 (mO K h o L (pIv iv (pl + (wdP (av 13) n pl 9).2) 0 im) (mu av 19 (upd (av 19) (3 * im) 1))) [.ref o] (pR (.int rt20.2.2) (mO K h o L (pIv iv rt20.1 rt20.2.1 im) (mu av 19 (upd (av 19) (3 * im) 1)))) := by rw [hrt20]; exact t20
          rw [← hrt20] at t20l
          refine g_callV F dX4_readItem_125 mi_X4_number q2649 q2651 qs63 gc_X4 mO_o t20 rfl rfl (nle rfl) (nle rfl) (nle rfl) (g_pur ?_) g_purX
          refine g_goto (tgt := 150) F dX4_readItem_128 (by decide) ?_
          refine g_miast hN 19 (n := 180) (i := 1 + 3 * im) F (by decide) (by decide) rfl (mO_19 hN) (nadd (nmul (rfl : (3 : Int32) = nI 3) rfl) (rfl : (1 : Int32) = nI 1)) (show ((3 * im) + 1) = 1 + 3 * im by omega) (by omega) (by decide) dX4_readItem_150 ?_
          refine g_eqh (h' := (mO K h o L (pIv iv rt20.1 rt20.2.1 im) (mu av 19 (upd (upd (av 19) (3 * im) 1) (1 + 3 * im) rt20.2.2)))) (by simp only [mu_s, mu_mu]; try rfl) ?_
          refine g_iload_n F dX4_readItem_151 3 rfl rfl ?_
          refine g_if_eq (tgt := 165) F dX4_readItem_152 (by decide) (fun c21 => absurd c21 (by decide)) (fun c21 => ?_)
          refine g_iload_n F dX4_readItem_155 3 rfl rfl ?_
          refine g_iconst (v := 2) F dX4_readItem_156 rfl ?_
          refine g_icmp_lt (tgt := 198) F dX4_readItem_157 (by decide) (fun c22 => ?_) (fun c22 => absurd c22 (by decide))
          refine g_aload_n F dX4_readItem_198 1 rfl rfl ?_
          refine g_dup F dX4_readItem_199 rfl ?_
          refine gf_X4_277_X4 (v := .int ((pIv iv rt20.1 rt20.2.1 im) 20)) F dX4_readItem_200 mO_o rfl ?_
          refine g_eqs (st' := [.int (nI im), .ref o]) (congrArg (fun z => [Value.int z, .ref o]) pIv_20) ?_
          refine g_iconst (v := 1) F dX4_readItem_203 rfl ?_
          refine g_iadd F dX4_readItem_204 ?_
          refine gp_X4_277_X4 F dX4_readItem_205 mO_o hN.1 (nle rfl) rfl (fun h_e23 e23 => ?_)
          refine g_mput (iv2 := upd (pIv iv rt20.1 rt20.2.1 im) 20 ((nI im) + 1)) e23 rfl ?_
          refine g_eqh (h' := (mO K h o L (pIv iv rt20.1 rt20.2.1 (im + 1)) (mu av 19 (upd (upd (av 19) (3 * im) 1) (1 + 3 * im) rt20.2.2)))) (by rw [nI_1, pIv_m]) ?_
          have hR : riP (av 13) n pl 0 im (av 19) = (rt20.1, rt20.2.1, im + 1, upd (upd (av 19) (3 * im) 1) (1 + 3 * im) rt20.2.2) := (riP_k (k := 1) hw9 (by decide)).trans (riK_1 hrt20)
          exact g_vret F dX4_readItem_208 (⟨rfl, by rw [hR]⟩)
        · refine g_eql (lv' := [(0, .ref o), (1, .int (nI ((wdP (av 13) n pl 9).2))), (2, .int 2)]) (by rw [hw9]; rfl) ?_
          refine g_aload_n F dX4_readItem_77 0 rfl rfl ?_
          refine g_iload_n F dX4_readItem_78 2 rfl rfl ?_
          refine g_if_ge (tgt := 86) F dX4_readItem_79 (by decide) (fun c24 => ?_) (fun c24 => absurd c24 (by decide))
          refine g_iconst (v := 0) F dX4_readItem_86 rfl ?_
          refine gp_X4_255_X4 F dX4_readItem_87 (by first | rfl | decide | (split <;> rfl)) (by first | rfl | decide | (split <;> rfl)) mO_o hN.1 (nle rfl) rfl (fun h_e25 e25 => ?_)
          refine g_mput (iv2 := upd (pIv iv (pl + (wdP (av 13) n pl 9).2) 0 im) 16 0) e25 rfl ?_
          refine g_eqh (h' := (mO K h o L (pIv iv (pl + (wdP (av 13) n pl 9).2) 0 im) av)) (by rw [pIv_w]) ?_
          refine g_aload_n F dX4_readItem_90 0 rfl rfl ?_
          refine gf_X4_255_X4 (v := .int ((pIv iv (pl + (wdP (av 13) n pl 9).2) 0 im) 16)) F dX4_readItem_91 mO_o rfl ?_
          refine g_eqs (st' := [.int 0]) (congrArg (fun z => [Value.int z]) pIv_16) ?_
          refine g_if_eq (tgt := 98) F dX4_readItem_94 (by decide) (fun c26 => ?_) (fun c26 => absurd c26 (by decide))
          refine g_iconst (v := 3) F dX4_readItem_98 rfl ?_
          refine g_aload_n F dX4_readItem_99 0 rfl rfl ?_
          refine gf_X4_277_X4 (v := .int ((pIv iv (pl + (wdP (av 13) n pl 9).2) 0 im) 20)) F dX4_readItem_100 mO_o rfl ?_
          refine g_eqs (st' := [.int (nI im), .int 3]) (congrArg (fun z => [Value.int z, .int 3]) pIv_20) ?_
          refine g_imul F dX4_readItem_103 ?_
          refine g_istore_n (lv' := [(3, .int (3 * (nI im))), (0, .ref o), (1, .int (nI ((wdP (av 13) n pl 9).2))), (2, .int 2)]) F dX4_readItem_104 rfl (by decide) rfl ?_
          refine g_aload_n F dX4_readItem_105 1 rfl rfl ?_
          refine gf_X4_63_X4 (v := .ref (L 19)) F dX4_readItem_106 mO_o rfl ?_
          refine g_iload_n F dX4_readItem_109 0 rfl rfl ?_
          refine g_iload_n F dX4_readItem_110 3 rfl rfl ?_
          refine g_miast hN 19 (n := 180) (i := 3 * im) F (by decide) (by decide) rfl (mO_19 hN) (nmul (rfl : (3 : Int32) = nI 3) rfl) (show (3 * im) = 3 * im by omega) (by omega) (by decide) dX4_readItem_111 ?_
          refine g_aload_n F dX4_readItem_112 1 rfl rfl ?_
          refine gf_X4_63_X4 (v := .ref (L 19)) F dX4_readItem_113 mO_o rfl ?_
          refine g_iload_n F dX4_readItem_116 0 rfl rfl ?_
          refine g_iconst (v := 1) F dX4_readItem_117 rfl ?_
          refine g_iadd F dX4_readItem_118 ?_
          refine g_iload_n F dX4_readItem_119 3 rfl rfl ?_
          refine g_iconst (v := 2) F dX4_readItem_120 rfl ?_
          refine g_icmp_ge (tgt := 131) F dX4_readItem_121 (by decide) (fun c27 => ?_) (fun c27 => absurd c27 (by decide))
          refine g_iload_n F dX4_readItem_131 3 rfl rfl ?_
          refine g_iconst (v := 5) F dX4_readItem_132 rfl ?_
          refine g_icmp_eq (tgt := 142) F dX4_readItem_133 (by decide) (fun c28 => absurd c28 (by decide)) (fun c28 => ?_)
          refine g_iload_n F dX4_readItem_136 3 rfl rfl ?_
          refine g_bipush (v := 8) F dX4_readItem_137 rfl ?_
          refine g_icmp_ne (tgt := 146) F dX4_readItem_139 (by decide) (fun c29 => ?_) (fun c29 => absurd c29 (by decide))
          refine g_aload_n F dX4_readItem_146 1 rfl rfl ?_
          have t30 := ct_X4_digit (h := h) (iv := iv) (av := mu av 19 (upd (av 19) (3 * im) 2)) (pl := pl + (wdP (av 13) n pl 9).2) (w := 0) (im := im) hN h14 hn (by omega)
          have t30l : (sgP (av 13) n 48 57 (pl + (wdP (av 13) n pl 9).2) 0).1 ≤ pl + (wdP (av 13) n pl 9).2 + 1 := sgP_le
          obtain ⟨rt30, hrt30⟩ : ∃ r, r = (sgP (av 13) n 48 57 (pl + (wdP (av 13) n pl 9).2) 0) := ⟨_, rfl⟩
          have t30 : gCt K yX4_digit w_X4_digit 3 66 0 0 (mO K h o L (pIv iv (pl + (wdP (av 13) n pl 9).2) 0 im) (mu av 19 (upd (av 19) (3 * im) 2))) [.ref o] (pR (.int rt30.2.2) (mO K h o L (pIv iv rt30.1 rt30.2.1 im) (mu av 19 (upd (av 19) (3 * im) 2)))) := by rw [hrt30]; exact t30
          rw [← hrt30] at t30l
          refine g_callV F dX4_readItem_147 mi_X4_digit q2653 q2655 qs64 gc_X4 mO_o t30 rfl rfl (nle rfl) (nle rfl) (nle rfl) (g_pur ?_) g_purX
          refine g_miast hN 19 (n := 180) (i := 1 + 3 * im) F (by decide) (by decide) rfl (mO_19 hN) (nadd (nmul (rfl : (3 : Int32) = nI 3) rfl) (rfl : (1 : Int32) = nI 1)) (show ((3 * im) + 1) = 1 + 3 * im by omega) (by omega) (by decide) dX4_readItem_150 ?_
          refine g_eqh (h' := (mO K h o L (pIv iv rt30.1 rt30.2.1 im) (mu av 19 (upd (upd (av 19) (3 * im) 2) (1 + 3 * im) rt30.2.2)))) (by simp only [mu_s, mu_mu]; try rfl) ?_
          refine g_iload_n F dX4_readItem_151 3 rfl rfl ?_
          refine g_if_eq (tgt := 165) F dX4_readItem_152 (by decide) (fun c31 => absurd c31 (by decide)) (fun c31 => ?_)
          refine g_iload_n F dX4_readItem_155 3 rfl rfl ?_
          refine g_iconst (v := 2) F dX4_readItem_156 rfl ?_
          refine g_icmp_lt (tgt := 198) F dX4_readItem_157 (by decide) (fun c32 => absurd c32 (by decide)) (fun c32 => ?_)
          refine g_iload_n F dX4_readItem_160 3 rfl rfl ?_
          refine g_iconst (v := 4) F dX4_readItem_161 rfl ?_
          refine g_icmp_gt (tgt := 198) F dX4_readItem_162 (by decide) (fun c33 => absurd c33 (by decide)) (fun c33 => ?_)
          refine g_aload_n F dX4_readItem_165 1 rfl rfl ?_
          refine g_bipush (v := 32) F dX4_readItem_166 rfl ?_
          refine g_bipush (v := 32) F dX4_readItem_168 rfl ?_
          have t34 := ct_X4_sign (h := h) (iv := iv) (av := mu av 19 (upd (upd (av 19) (3 * im) 2) (1 + 3 * im) rt30.2.2)) (pl := rt30.1) (w := rt30.2.1) (im := im) (lo := 32) (hi := 32) hN h14 hn (by omega)
          have t34l : (sgP (av 13) n 32 32 rt30.1 rt30.2.1).1 ≤ rt30.1 + 1 := sgP_le
          obtain ⟨rt34, hrt34⟩ : ∃ r, r = (sgP (av 13) n 32 32 rt30.1 rt30.2.1) := ⟨_, rfl⟩
          have t34 : gCt K yX4_sign w_X4_sign 2 44 0 0 (mO K h o L (pIv iv rt30.1 rt30.2.1 im) (mu av 19 (upd (upd (av 19) (3 * im) 2) (1 + 3 * im) rt30.2.2))) [.ref o, .int 32, .int 32] (pR (.int rt34.2.2) (mO K h o L (pIv iv rt34.1 rt34.2.1 im) (mu av 19 (upd (upd (av 19) (3 * im) 2) (1 + 3 * im) rt30.2.2)))) := by rw [hrt34]; exact t34
          rw [← hrt34] at t34l
          refine g_callV F dX4_readItem_170 mi_X4_sign q2657 q2659 qs65 gc_X4 mO_o t34 rfl rfl (nle rfl) (nle rfl) (nle rfl) (g_pur ?_) g_purX
          refine g_istore (lv' := [(4, .int rt34.2.2), (3, .int (3 * (nI im))), (0, .ref o), (1, .int (nI ((wdP (av 13) n pl 9).2))), (2, .int 2)]) F dX4_readItem_173 (by decide) rfl ?_
          refine g_aload_n F dX4_readItem_175 2 rfl rfl ?_
          refine gf_X4_63_X4 (v := .ref (L 19)) F dX4_readItem_176 mO_o rfl ?_
          refine g_iload_n F dX4_readItem_179 1 rfl rfl ?_
          refine g_iconst (v := 2) F dX4_readItem_180 rfl ?_
          refine g_iadd F dX4_readItem_181 ?_
          refine g_iload_n F dX4_readItem_182 4 rfl rfl ?_
          refine g_if_ne (tgt := 193) F dX4_readItem_183 (by decide) (fun c35 => ?_) (fun c35 => absurd c35 (by decide))
          refine g_aload_n F dX4_readItem_193 2 rfl rfl ?_
          have t36 := ct_X4_number (h := h) (iv := iv) (av := mu av 19 (upd (upd (av 19) (3 * im) 2) (1 + 3 * im) rt30.2.2)) (pl := rt34.1) (w := rt34.2.1) (im := im) hN h14 hn (by omega)
          have t36l : (nmP (av 13) n rt34.1 rt34.2.1).1 ≤ rt34.1 + 2 := nmP_le
          obtain ⟨rt36, hrt36⟩ : ∃ r, r = (nmP (av 13) n rt34.1 rt34.2.1) := ⟨_, rfl⟩
          have t36 : gCt K yX4_number w_X4_number 4 86 0 0 (mO K h o L (pIv iv rt34.1 rt34.2.1 im) (mu av 19 (upd (upd (av 19) (3 * im) 2) (1 + 3 * im) rt30.2.2))) [.ref o] (pR (.int rt36.2.2) (mO K h o L (pIv iv rt36.1 rt36.2.1 im) (mu av 19 (upd (upd (av 19) (3 * im) 2) (1 + 3 * im) rt30.2.2)))) := by rw [hrt36]; exact t36
          rw [← hrt36] at t36l
          refine g_callV F dX4_readItem_194 mi_X4_number q2649 q2651 qs63 gc_X4 mO_o t36 rfl rfl (nle rfl) (nle rfl) (nle rfl) (g_pur ?_) g_purX
          refine g_miast hN 19 (n := 180) (i := 2 + 3 * im) F (by decide) (by decide) rfl (mO_19 hN) (nadd (nmul (rfl : (3 : Int32) = nI 3) rfl) (rfl : (2 : Int32) = nI 2)) (show ((3 * im) + 2) = 2 + 3 * im by omega) (by omega) (by decide) dX4_readItem_197 ?_
          refine g_eqh (h' := (mO K h o L (pIv iv rt36.1 rt36.2.1 im) (mu av 19 (upd (upd (upd (av 19) (3 * im) 2) (1 + 3 * im) rt30.2.2) (2 + 3 * im) rt36.2.2)))) (by simp only [mu_s, mu_mu]; try rfl) ?_
          refine g_aload_n F dX4_readItem_198 2 rfl rfl ?_
          refine g_dup F dX4_readItem_199 rfl ?_
          refine gf_X4_277_X4 (v := .int ((pIv iv rt36.1 rt36.2.1 im) 20)) F dX4_readItem_200 mO_o rfl ?_
          refine g_eqs (st' := [.int (nI im), .ref o]) (congrArg (fun z => [Value.int z, .ref o]) pIv_20) ?_
          refine g_iconst (v := 1) F dX4_readItem_203 rfl ?_
          refine g_iadd F dX4_readItem_204 ?_
          refine gp_X4_277_X4 F dX4_readItem_205 mO_o hN.1 (nle rfl) rfl (fun h_e37 e37 => ?_)
          refine g_mput (iv2 := upd (pIv iv rt36.1 rt36.2.1 im) 20 ((nI im) + 1)) e37 rfl ?_
          refine g_eqh (h' := (mO K h o L (pIv iv rt36.1 rt36.2.1 (im + 1)) (mu av 19 (upd (upd (upd (av 19) (3 * im) 2) (1 + 3 * im) rt30.2.2) (2 + 3 * im) rt36.2.2)))) (by rw [nI_1, pIv_m]) ?_
          have hR : riP (av 13) n pl 0 im (av 19) = (rt36.1, rt36.2.1, im + 1, upd (upd (upd (av 19) (3 * im) 2) (1 + 3 * im) rt30.2.2) (2 + 3 * im) rt36.2.2) := (riP_k (k := 2) hw9 (by decide)).trans (riK_2 hrt30 hrt34 hrt36)
          exact g_vret F dX4_readItem_208 (⟨rfl, by rw [hR]⟩)
        · refine g_eql (lv' := [(0, .ref o), (1, .int (nI ((wdP (av 13) n pl 9).2))), (2, .int 3)]) (by rw [hw9]; rfl) ?_
          refine g_aload_n F dX4_readItem_77 0 rfl rfl ?_
          refine g_iload_n F dX4_readItem_78 2 rfl rfl ?_
          refine g_if_ge (tgt := 86) F dX4_readItem_79 (by decide) (fun c38 => ?_) (fun c38 => absurd c38 (by decide))
          refine g_iconst (v := 0) F dX4_readItem_86 rfl ?_
          refine gp_X4_255_X4 F dX4_readItem_87 (by first | rfl | decide | (split <;> rfl)) (by first | rfl | decide | (split <;> rfl)) mO_o hN.1 (nle rfl) rfl (fun h_e39 e39 => ?_)
          refine g_mput (iv2 := upd (pIv iv (pl + (wdP (av 13) n pl 9).2) 0 im) 16 0) e39 rfl ?_
          refine g_eqh (h' := (mO K h o L (pIv iv (pl + (wdP (av 13) n pl 9).2) 0 im) av)) (by rw [pIv_w]) ?_
          refine g_aload_n F dX4_readItem_90 0 rfl rfl ?_
          refine gf_X4_255_X4 (v := .int ((pIv iv (pl + (wdP (av 13) n pl 9).2) 0 im) 16)) F dX4_readItem_91 mO_o rfl ?_
          refine g_eqs (st' := [.int 0]) (congrArg (fun z => [Value.int z]) pIv_16) ?_
          refine g_if_eq (tgt := 98) F dX4_readItem_94 (by decide) (fun c40 => ?_) (fun c40 => absurd c40 (by decide))
          refine g_iconst (v := 3) F dX4_readItem_98 rfl ?_
          refine g_aload_n F dX4_readItem_99 0 rfl rfl ?_
          refine gf_X4_277_X4 (v := .int ((pIv iv (pl + (wdP (av 13) n pl 9).2) 0 im) 20)) F dX4_readItem_100 mO_o rfl ?_
          refine g_eqs (st' := [.int (nI im), .int 3]) (congrArg (fun z => [Value.int z, .int 3]) pIv_20) ?_
          refine g_imul F dX4_readItem_103 ?_
          refine g_istore_n (lv' := [(3, .int (3 * (nI im))), (0, .ref o), (1, .int (nI ((wdP (av 13) n pl 9).2))), (2, .int 3)]) F dX4_readItem_104 rfl (by decide) rfl ?_
          refine g_aload_n F dX4_readItem_105 1 rfl rfl ?_
          refine gf_X4_63_X4 (v := .ref (L 19)) F dX4_readItem_106 mO_o rfl ?_
          refine g_iload_n F dX4_readItem_109 0 rfl rfl ?_
          refine g_iload_n F dX4_readItem_110 3 rfl rfl ?_
          refine g_miast hN 19 (n := 180) (i := 3 * im) F (by decide) (by decide) rfl (mO_19 hN) (nmul (rfl : (3 : Int32) = nI 3) rfl) (show (3 * im) = 3 * im by omega) (by omega) (by decide) dX4_readItem_111 ?_
          refine g_aload_n F dX4_readItem_112 1 rfl rfl ?_
          refine gf_X4_63_X4 (v := .ref (L 19)) F dX4_readItem_113 mO_o rfl ?_
          refine g_iload_n F dX4_readItem_116 0 rfl rfl ?_
          refine g_iconst (v := 1) F dX4_readItem_117 rfl ?_
          refine g_iadd F dX4_readItem_118 ?_
          refine g_iload_n F dX4_readItem_119 3 rfl rfl ?_
          refine g_iconst (v := 2) F dX4_readItem_120 rfl ?_
          refine g_icmp_ge (tgt := 131) F dX4_readItem_121 (by decide) (fun c41 => ?_) (fun c41 => absurd c41 (by decide))
          refine g_iload_n F dX4_readItem_131 3 rfl rfl ?_
          refine g_iconst (v := 5) F dX4_readItem_132 rfl ?_
          refine g_icmp_eq (tgt := 142) F dX4_readItem_133 (by decide) (fun c42 => absurd c42 (by decide)) (fun c42 => ?_)
          refine g_iload_n F dX4_readItem_136 3 rfl rfl ?_
          refine g_bipush (v := 8) F dX4_readItem_137 rfl ?_
          refine g_icmp_ne (tgt := 146) F dX4_readItem_139 (by decide) (fun c43 => ?_) (fun c43 => absurd c43 (by decide))
          refine g_aload_n F dX4_readItem_146 1 rfl rfl ?_
          have t44 := ct_X4_digit (h := h) (iv := iv) (av := mu av 19 (upd (av 19) (3 * im) 3)) (pl := pl + (wdP (av 13) n pl 9).2) (w := 0) (im := im) hN h14 hn (by omega)
          have t44l : (sgP (av 13) n 48 57 (pl + (wdP (av 13) n pl 9).2) 0).1 ≤ pl + (wdP (av 13) n pl 9).2 + 1 := sgP_le
          obtain ⟨rt44, hrt44⟩ : ∃ r, r = (sgP (av 13) n 48 57 (pl + (wdP (av 13) n pl 9).2) 0) := ⟨_, rfl⟩
          have t44 : gCt K yX4_digit w_X4_digit 3 66 0 0 (mO K h o L (pIv iv (pl + (wdP (av 13) n pl 9).2) 0 im) (mu av 19 (upd (av 19) (3 * im) 3))) [.ref o] (pR (.int rt44.2.2) (mO K h o L (pIv iv rt44.1 rt44.2.1 im) (mu av 19 (upd (av 19) (3 * im) 3)))) := by rw [hrt44]; exact t44
          rw [← hrt44] at t44l
          refine g_callV F dX4_readItem_147 mi_X4_digit q2653 q2655 qs64 gc_X4 mO_o t44 rfl rfl (nle rfl) (nle rfl) (nle rfl) (g_pur ?_) g_purX
          refine g_miast hN 19 (n := 180) (i := 1 + 3 * im) F (by decide) (by decide) rfl (mO_19 hN) (nadd (nmul (rfl : (3 : Int32) = nI 3) rfl) (rfl : (1 : Int32) = nI 1)) (show ((3 * im) + 1) = 1 + 3 * im by omega) (by omega) (by decide) dX4_readItem_150 ?_
          refine g_eqh (h' := (mO K h o L (pIv iv rt44.1 rt44.2.1 im) (mu av 19 (upd (upd (av 19) (3 * im) 3) (1 + 3 * im) rt44.2.2)))) (by simp only [mu_s, mu_mu]; try rfl) ?_
          refine g_iload_n F dX4_readItem_151 3 rfl rfl ?_
          refine g_if_eq (tgt := 165) F dX4_readItem_152 (by decide) (fun c45 => absurd c45 (by decide)) (fun c45 => ?_)
          refine g_iload_n F dX4_readItem_155 3 rfl rfl ?_
          refine g_iconst (v := 2) F dX4_readItem_156 rfl ?_
          refine g_icmp_lt (tgt := 198) F dX4_readItem_157 (by decide) (fun c46 => absurd c46 (by decide)) (fun c46 => ?_)
          refine g_iload_n F dX4_readItem_160 3 rfl rfl ?_
          refine g_iconst (v := 4) F dX4_readItem_161 rfl ?_
          refine g_icmp_gt (tgt := 198) F dX4_readItem_162 (by decide) (fun c47 => absurd c47 (by decide)) (fun c47 => ?_)
          refine g_aload_n F dX4_readItem_165 1 rfl rfl ?_
          refine g_bipush (v := 32) F dX4_readItem_166 rfl ?_
          refine g_bipush (v := 32) F dX4_readItem_168 rfl ?_
          have t48 := ct_X4_sign (h := h) (iv := iv) (av := mu av 19 (upd (upd (av 19) (3 * im) 3) (1 + 3 * im) rt44.2.2)) (pl := rt44.1) (w := rt44.2.1) (im := im) (lo := 32) (hi := 32) hN h14 hn (by omega)
          have t48l : (sgP (av 13) n 32 32 rt44.1 rt44.2.1).1 ≤ rt44.1 + 1 := sgP_le
          obtain ⟨rt48, hrt48⟩ : ∃ r, r = (sgP (av 13) n 32 32 rt44.1 rt44.2.1) := ⟨_, rfl⟩
          have t48 : gCt K yX4_sign w_X4_sign 2 44 0 0 (mO K h o L (pIv iv rt44.1 rt44.2.1 im) (mu av 19 (upd (upd (av 19) (3 * im) 3) (1 + 3 * im) rt44.2.2))) [.ref o, .int 32, .int 32] (pR (.int rt48.2.2) (mO K h o L (pIv iv rt48.1 rt48.2.1 im) (mu av 19 (upd (upd (av 19) (3 * im) 3) (1 + 3 * im) rt44.2.2)))) := by rw [hrt48]; exact t48
          rw [← hrt48] at t48l
          refine g_callV F dX4_readItem_170 mi_X4_sign q2657 q2659 qs65 gc_X4 mO_o t48 rfl rfl (nle rfl) (nle rfl) (nle rfl) (g_pur ?_) g_purX
          refine g_istore (lv' := [(4, .int rt48.2.2), (3, .int (3 * (nI im))), (0, .ref o), (1, .int (nI ((wdP (av 13) n pl 9).2))), (2, .int 3)]) F dX4_readItem_173 (by decide) rfl ?_
          refine g_aload_n F dX4_readItem_175 2 rfl rfl ?_
          refine gf_X4_63_X4 (v := .ref (L 19)) F dX4_readItem_176 mO_o rfl ?_
          refine g_iload_n F dX4_readItem_179 1 rfl rfl ?_
          refine g_iconst (v := 2) F dX4_readItem_180 rfl ?_
          refine g_iadd F dX4_readItem_181 ?_
          refine g_iload_n F dX4_readItem_182 4 rfl rfl ?_
          refine g_if_ne (tgt := 193) F dX4_readItem_183 (by decide) (fun c49 => ?_) (fun c49 => absurd c49 (by decide))
          refine g_aload_n F dX4_readItem_193 2 rfl rfl ?_
          have t50 := ct_X4_number (h := h) (iv := iv) (av := mu av 19 (upd (upd (av 19) (3 * im) 3) (1 + 3 * im) rt44.2.2)) (pl := rt48.1) (w := rt48.2.1) (im := im) hN h14 hn (by omega)
          have t50l : (nmP (av 13) n rt48.1 rt48.2.1).1 ≤ rt48.1 + 2 := nmP_le
          obtain ⟨rt50, hrt50⟩ : ∃ r, r = (nmP (av 13) n rt48.1 rt48.2.1) := ⟨_, rfl⟩
          have t50 : gCt K yX4_number w_X4_number 4 86 0 0 (mO K h o L (pIv iv rt48.1 rt48.2.1 im) (mu av 19 (upd (upd (av 19) (3 * im) 3) (1 + 3 * im) rt44.2.2))) [.ref o] (pR (.int rt50.2.2) (mO K h o L (pIv iv rt50.1 rt50.2.1 im) (mu av 19 (upd (upd (av 19) (3 * im) 3) (1 + 3 * im) rt44.2.2)))) := by rw [hrt50]; exact t50
          rw [← hrt50] at t50l
          refine g_callV F dX4_readItem_194 mi_X4_number q2649 q2651 qs63 gc_X4 mO_o t50 rfl rfl (nle rfl) (nle rfl) (nle rfl) (g_pur ?_) g_purX
          refine g_miast hN 19 (n := 180) (i := 2 + 3 * im) F (by decide) (by decide) rfl (mO_19 hN) (nadd (nmul (rfl : (3 : Int32) = nI 3) rfl) (rfl : (2 : Int32) = nI 2)) (show ((3 * im) + 2) = 2 + 3 * im by omega) (by omega) (by decide) dX4_readItem_197 ?_
          refine g_eqh (h' := (mO K h o L (pIv iv rt50.1 rt50.2.1 im) (mu av 19 (upd (upd (upd (av 19) (3 * im) 3) (1 + 3 * im) rt44.2.2) (2 + 3 * im) rt50.2.2)))) (by simp only [mu_s, mu_mu]; try rfl) ?_
          refine g_aload_n F dX4_readItem_198 2 rfl rfl ?_
          refine g_dup F dX4_readItem_199 rfl ?_
          refine gf_X4_277_X4 (v := .int ((pIv iv rt50.1 rt50.2.1 im) 20)) F dX4_readItem_200 mO_o rfl ?_
          refine g_eqs (st' := [.int (nI im), .ref o]) (congrArg (fun z => [Value.int z, .ref o]) pIv_20) ?_
          refine g_iconst (v := 1) F dX4_readItem_203 rfl ?_
          refine g_iadd F dX4_readItem_204 ?_
          refine gp_X4_277_X4 F dX4_readItem_205 mO_o hN.1 (nle rfl) rfl (fun h_e51 e51 => ?_)
          refine g_mput (iv2 := upd (pIv iv rt50.1 rt50.2.1 im) 20 ((nI im) + 1)) e51 rfl ?_
          refine g_eqh (h' := (mO K h o L (pIv iv rt50.1 rt50.2.1 (im + 1)) (mu av 19 (upd (upd (upd (av 19) (3 * im) 3) (1 + 3 * im) rt44.2.2) (2 + 3 * im) rt50.2.2)))) (by rw [nI_1, pIv_m]) ?_
          have hR : riP (av 13) n pl 0 im (av 19) = (rt50.1, rt50.2.1, im + 1, upd (upd (upd (av 19) (3 * im) 3) (1 + 3 * im) rt44.2.2) (2 + 3 * im) rt50.2.2) := (riP_k (k := 3) hw9 (by decide)).trans (riK_3 hrt44 hrt48 hrt50)
          exact g_vret F dX4_readItem_208 (⟨rfl, by rw [hR]⟩)
        · refine g_eql (lv' := [(0, .ref o), (1, .int (nI ((wdP (av 13) n pl 9).2))), (2, .int 4)]) (by rw [hw9]; rfl) ?_
          refine g_aload_n F dX4_readItem_77 0 rfl rfl ?_
          refine g_iload_n F dX4_readItem_78 2 rfl rfl ?_
          refine g_if_ge (tgt := 86) F dX4_readItem_79 (by decide) (fun c52 => ?_) (fun c52 => absurd c52 (by decide))
          refine g_iconst (v := 0) F dX4_readItem_86 rfl ?_
          refine gp_X4_255_X4 F dX4_readItem_87 (by first | rfl | decide | (split <;> rfl)) (by first | rfl | decide | (split <;> rfl)) mO_o hN.1 (nle rfl) rfl (fun h_e53 e53 => ?_)
          refine g_mput (iv2 := upd (pIv iv (pl + (wdP (av 13) n pl 9).2) 0 im) 16 0) e53 rfl ?_
          refine g_eqh (h' := (mO K h o L (pIv iv (pl + (wdP (av 13) n pl 9).2) 0 im) av)) (by rw [pIv_w]) ?_
          refine g_aload_n F dX4_readItem_90 0 rfl rfl ?_
          refine gf_X4_255_X4 (v := .int ((pIv iv (pl + (wdP (av 13) n pl 9).2) 0 im) 16)) F dX4_readItem_91 mO_o rfl ?_
          refine g_eqs (st' := [.int 0]) (congrArg (fun z => [Value.int z]) pIv_16) ?_
          refine g_if_eq (tgt := 98) F dX4_readItem_94 (by decide) (fun c54 => ?_) (fun c54 => absurd c54 (by decide))
          refine g_iconst (v := 3) F dX4_readItem_98 rfl ?_
          refine g_aload_n F dX4_readItem_99 0 rfl rfl ?_
          refine gf_X4_277_X4 (v := .int ((pIv iv (pl + (wdP (av 13) n pl 9).2) 0 im) 20)) F dX4_readItem_100 mO_o rfl ?_
          refine g_eqs (st' := [.int (nI im), .int 3]) (congrArg (fun z => [Value.int z, .int 3]) pIv_20) ?_
          refine g_imul F dX4_readItem_103 ?_
          refine g_istore_n (lv' := [(3, .int (3 * (nI im))), (0, .ref o), (1, .int (nI ((wdP (av 13) n pl 9).2))), (2, .int 4)]) F dX4_readItem_104 rfl (by decide) rfl ?_
          refine g_aload_n F dX4_readItem_105 1 rfl rfl ?_
          refine gf_X4_63_X4 (v := .ref (L 19)) F dX4_readItem_106 mO_o rfl ?_
          refine g_iload_n F dX4_readItem_109 0 rfl rfl ?_
          refine g_iload_n F dX4_readItem_110 3 rfl rfl ?_
          refine g_miast hN 19 (n := 180) (i := 3 * im) F (by decide) (by decide) rfl (mO_19 hN) (nmul (rfl : (3 : Int32) = nI 3) rfl) (show (3 * im) = 3 * im by omega) (by omega) (by decide) dX4_readItem_111 ?_
          refine g_aload_n F dX4_readItem_112 1 rfl rfl ?_
          refine gf_X4_63_X4 (v := .ref (L 19)) F dX4_readItem_113 mO_o rfl ?_
          refine g_iload_n F dX4_readItem_116 0 rfl rfl ?_
          refine g_iconst (v := 1) F dX4_readItem_117 rfl ?_
          refine g_iadd F dX4_readItem_118 ?_
          refine g_iload_n F dX4_readItem_119 3 rfl rfl ?_
          refine g_iconst (v := 2) F dX4_readItem_120 rfl ?_
          refine g_icmp_ge (tgt := 131) F dX4_readItem_121 (by decide) (fun c55 => ?_) (fun c55 => absurd c55 (by decide))
          refine g_iload_n F dX4_readItem_131 3 rfl rfl ?_
          refine g_iconst (v := 5) F dX4_readItem_132 rfl ?_
          refine g_icmp_eq (tgt := 142) F dX4_readItem_133 (by decide) (fun c56 => absurd c56 (by decide)) (fun c56 => ?_)
          refine g_iload_n F dX4_readItem_136 3 rfl rfl ?_
          refine g_bipush (v := 8) F dX4_readItem_137 rfl ?_
          refine g_icmp_ne (tgt := 146) F dX4_readItem_139 (by decide) (fun c57 => ?_) (fun c57 => absurd c57 (by decide))
          refine g_aload_n F dX4_readItem_146 1 rfl rfl ?_
          have t58 := ct_X4_digit (h := h) (iv := iv) (av := mu av 19 (upd (av 19) (3 * im) 4)) (pl := pl + (wdP (av 13) n pl 9).2) (w := 0) (im := im) hN h14 hn (by omega)
          have t58l : (sgP (av 13) n 48 57 (pl + (wdP (av 13) n pl 9).2) 0).1 ≤ pl + (wdP (av 13) n pl 9).2 + 1 := sgP_le
          obtain ⟨rt58, hrt58⟩ : ∃ r, r = (sgP (av 13) n 48 57 (pl + (wdP (av 13) n pl 9).2) 0) := ⟨_, rfl⟩
          have t58 : gCt K yX4_digit w_X4_digit 3 66 0 0 (mO K h o L (pIv iv (pl + (wdP (av 13) n pl 9).2) 0 im) (mu av 19 (upd (av 19) (3 * im) 4))) [.ref o] (pR (.int rt58.2.2) (mO K h o L (pIv iv rt58.1 rt58.2.1 im) (mu av 19 (upd (av 19) (3 * im) 4)))) := by rw [hrt58]; exact t58
          rw [← hrt58] at t58l
          refine g_callV F dX4_readItem_147 mi_X4_digit q2653 q2655 qs64 gc_X4 mO_o t58 rfl rfl (nle rfl) (nle rfl) (nle rfl) (g_pur ?_) g_purX
          refine g_miast hN 19 (n := 180) (i := 1 + 3 * im) F (by decide) (by decide) rfl (mO_19 hN) (nadd (nmul (rfl : (3 : Int32) = nI 3) rfl) (rfl : (1 : Int32) = nI 1)) (show ((3 * im) + 1) = 1 + 3 * im by omega) (by omega) (by decide) dX4_readItem_150 ?_
          refine g_eqh (h' := (mO K h o L (pIv iv rt58.1 rt58.2.1 im) (mu av 19 (upd (upd (av 19) (3 * im) 4) (1 + 3 * im) rt58.2.2)))) (by simp only [mu_s, mu_mu]; try rfl) ?_
          refine g_iload_n F dX4_readItem_151 3 rfl rfl ?_
          refine g_if_eq (tgt := 165) F dX4_readItem_152 (by decide) (fun c59 => absurd c59 (by decide)) (fun c59 => ?_)
          refine g_iload_n F dX4_readItem_155 3 rfl rfl ?_
          refine g_iconst (v := 2) F dX4_readItem_156 rfl ?_
          refine g_icmp_lt (tgt := 198) F dX4_readItem_157 (by decide) (fun c60 => absurd c60 (by decide)) (fun c60 => ?_)
          refine g_iload_n F dX4_readItem_160 3 rfl rfl ?_
          refine g_iconst (v := 4) F dX4_readItem_161 rfl ?_
          refine g_icmp_gt (tgt := 198) F dX4_readItem_162 (by decide) (fun c61 => absurd c61 (by decide)) (fun c61 => ?_)
          refine g_aload_n F dX4_readItem_165 1 rfl rfl ?_
          refine g_bipush (v := 32) F dX4_readItem_166 rfl ?_
          refine g_bipush (v := 32) F dX4_readItem_168 rfl ?_
          have t62 := ct_X4_sign (h := h) (iv := iv) (av := mu av 19 (upd (upd (av 19) (3 * im) 4) (1 + 3 * im) rt58.2.2)) (pl := rt58.1) (w := rt58.2.1) (im := im) (lo := 32) (hi := 32) hN h14 hn (by omega)
          have t62l : (sgP (av 13) n 32 32 rt58.1 rt58.2.1).1 ≤ rt58.1 + 1 := sgP_le
          obtain ⟨rt62, hrt62⟩ : ∃ r, r = (sgP (av 13) n 32 32 rt58.1 rt58.2.1) := ⟨_, rfl⟩
          have t62 : gCt K yX4_sign w_X4_sign 2 44 0 0 (mO K h o L (pIv iv rt58.1 rt58.2.1 im) (mu av 19 (upd (upd (av 19) (3 * im) 4) (1 + 3 * im) rt58.2.2))) [.ref o, .int 32, .int 32] (pR (.int rt62.2.2) (mO K h o L (pIv iv rt62.1 rt62.2.1 im) (mu av 19 (upd (upd (av 19) (3 * im) 4) (1 + 3 * im) rt58.2.2)))) := by rw [hrt62]; exact t62
          rw [← hrt62] at t62l
          refine g_callV F dX4_readItem_170 mi_X4_sign q2657 q2659 qs65 gc_X4 mO_o t62 rfl rfl (nle rfl) (nle rfl) (nle rfl) (g_pur ?_) g_purX
          refine g_istore (lv' := [(4, .int rt62.2.2), (3, .int (3 * (nI im))), (0, .ref o), (1, .int (nI ((wdP (av 13) n pl 9).2))), (2, .int 4)]) F dX4_readItem_173 (by decide) rfl ?_
          refine g_aload_n F dX4_readItem_175 2 rfl rfl ?_
          refine gf_X4_63_X4 (v := .ref (L 19)) F dX4_readItem_176 mO_o rfl ?_
          refine g_iload_n F dX4_readItem_179 1 rfl rfl ?_
          refine g_iconst (v := 2) F dX4_readItem_180 rfl ?_
          refine g_iadd F dX4_readItem_181 ?_
          refine g_iload_n F dX4_readItem_182 4 rfl rfl ?_
          refine g_if_ne (tgt := 193) F dX4_readItem_183 (by decide) (fun c63 => ?_) (fun c63 => absurd c63 (by decide))
          refine g_aload_n F dX4_readItem_193 2 rfl rfl ?_
          have t64 := ct_X4_number (h := h) (iv := iv) (av := mu av 19 (upd (upd (av 19) (3 * im) 4) (1 + 3 * im) rt58.2.2)) (pl := rt62.1) (w := rt62.2.1) (im := im) hN h14 hn (by omega)
          have t64l : (nmP (av 13) n rt62.1 rt62.2.1).1 ≤ rt62.1 + 2 := nmP_le
          obtain ⟨rt64, hrt64⟩ : ∃ r, r = (nmP (av 13) n rt62.1 rt62.2.1) := ⟨_, rfl⟩
          have t64 : gCt K yX4_number w_X4_number 4 86 0 0 (mO K h o L (pIv iv rt62.1 rt62.2.1 im) (mu av 19 (upd (upd (av 19) (3 * im) 4) (1 + 3 * im) rt58.2.2))) [.ref o] (pR (.int rt64.2.2) (mO K h o L (pIv iv rt64.1 rt64.2.1 im) (mu av 19 (upd (upd (av 19) (3 * im) 4) (1 + 3 * im) rt58.2.2)))) := by rw [hrt64]; exact t64
          rw [← hrt64] at t64l
          refine g_callV F dX4_readItem_194 mi_X4_number q2649 q2651 qs63 gc_X4 mO_o t64 rfl rfl (nle rfl) (nle rfl) (nle rfl) (g_pur ?_) g_purX
          refine g_miast hN 19 (n := 180) (i := 2 + 3 * im) F (by decide) (by decide) rfl (mO_19 hN) (nadd (nmul (rfl : (3 : Int32) = nI 3) rfl) (rfl : (2 : Int32) = nI 2)) (show ((3 * im) + 2) = 2 + 3 * im by omega) (by omega) (by decide) dX4_readItem_197 ?_
          refine g_eqh (h' := (mO K h o L (pIv iv rt64.1 rt64.2.1 im) (mu av 19 (upd (upd (upd (av 19) (3 * im) 4) (1 + 3 * im) rt58.2.2) (2 + 3 * im) rt64.2.2)))) (by simp only [mu_s, mu_mu]; try rfl) ?_
          refine g_aload_n F dX4_readItem_198 2 rfl rfl ?_
          refine g_dup F dX4_readItem_199 rfl ?_
          refine gf_X4_277_X4 (v := .int ((pIv iv rt64.1 rt64.2.1 im) 20)) F dX4_readItem_200 mO_o rfl ?_
          refine g_eqs (st' := [.int (nI im), .ref o]) (congrArg (fun z => [Value.int z, .ref o]) pIv_20) ?_
          refine g_iconst (v := 1) F dX4_readItem_203 rfl ?_
          refine g_iadd F dX4_readItem_204 ?_
          refine gp_X4_277_X4 F dX4_readItem_205 mO_o hN.1 (nle rfl) rfl (fun h_e65 e65 => ?_)
          refine g_mput (iv2 := upd (pIv iv rt64.1 rt64.2.1 im) 20 ((nI im) + 1)) e65 rfl ?_
          refine g_eqh (h' := (mO K h o L (pIv iv rt64.1 rt64.2.1 (im + 1)) (mu av 19 (upd (upd (upd (av 19) (3 * im) 4) (1 + 3 * im) rt58.2.2) (2 + 3 * im) rt64.2.2)))) (by rw [nI_1, pIv_m]) ?_
          have hR : riP (av 13) n pl 0 im (av 19) = (rt64.1, rt64.2.1, im + 1, upd (upd (upd (av 19) (3 * im) 4) (1 + 3 * im) rt58.2.2) (2 + 3 * im) rt64.2.2) := (riP_k (k := 4) hw9 (by decide)).trans (riK_4 hrt58 hrt62 hrt64)
          exact g_vret F dX4_readItem_208 (⟨rfl, by rw [hR]⟩)
        · refine g_eql (lv' := [(0, .ref o), (1, .int (nI ((wdP (av 13) n pl 9).2))), (2, .int 5)]) (by rw [hw9]; rfl) ?_
          refine g_aload_n F dX4_readItem_77 0 rfl rfl ?_
          refine g_iload_n F dX4_readItem_78 2 rfl rfl ?_
          refine g_if_ge (tgt := 86) F dX4_readItem_79 (by decide) (fun c66 => ?_) (fun c66 => absurd c66 (by decide))
          refine g_iconst (v := 0) F dX4_readItem_86 rfl ?_
          refine gp_X4_255_X4 F dX4_readItem_87 (by first | rfl | decide | (split <;> rfl)) (by first | rfl | decide | (split <;> rfl)) mO_o hN.1 (nle rfl) rfl (fun h_e67 e67 => ?_)
          refine g_mput (iv2 := upd (pIv iv (pl + (wdP (av 13) n pl 9).2) 0 im) 16 0) e67 rfl ?_
          refine g_eqh (h' := (mO K h o L (pIv iv (pl + (wdP (av 13) n pl 9).2) 0 im) av)) (by rw [pIv_w]) ?_
          refine g_aload_n F dX4_readItem_90 0 rfl rfl ?_
          refine gf_X4_255_X4 (v := .int ((pIv iv (pl + (wdP (av 13) n pl 9).2) 0 im) 16)) F dX4_readItem_91 mO_o rfl ?_
          refine g_eqs (st' := [.int 0]) (congrArg (fun z => [Value.int z]) pIv_16) ?_
          refine g_if_eq (tgt := 98) F dX4_readItem_94 (by decide) (fun c68 => ?_) (fun c68 => absurd c68 (by decide))
          refine g_iconst (v := 3) F dX4_readItem_98 rfl ?_
          refine g_aload_n F dX4_readItem_99 0 rfl rfl ?_
          refine gf_X4_277_X4 (v := .int ((pIv iv (pl + (wdP (av 13) n pl 9).2) 0 im) 20)) F dX4_readItem_100 mO_o rfl ?_
          refine g_eqs (st' := [.int (nI im), .int 3]) (congrArg (fun z => [Value.int z, .int 3]) pIv_20) ?_
          refine g_imul F dX4_readItem_103 ?_
          refine g_istore_n (lv' := [(3, .int (3 * (nI im))), (0, .ref o), (1, .int (nI ((wdP (av 13) n pl 9).2))), (2, .int 5)]) F dX4_readItem_104 rfl (by decide) rfl ?_
          refine g_aload_n F dX4_readItem_105 1 rfl rfl ?_
          refine gf_X4_63_X4 (v := .ref (L 19)) F dX4_readItem_106 mO_o rfl ?_
          refine g_iload_n F dX4_readItem_109 0 rfl rfl ?_
          refine g_iload_n F dX4_readItem_110 3 rfl rfl ?_
          refine g_miast hN 19 (n := 180) (i := 3 * im) F (by decide) (by decide) rfl (mO_19 hN) (nmul (rfl : (3 : Int32) = nI 3) rfl) (show (3 * im) = 3 * im by omega) (by omega) (by decide) dX4_readItem_111 ?_
          refine g_aload_n F dX4_readItem_112 1 rfl rfl ?_
          refine gf_X4_63_X4 (v := .ref (L 19)) F dX4_readItem_113 mO_o rfl ?_
          refine g_iload_n F dX4_readItem_116 0 rfl rfl ?_
          refine g_iconst (v := 1) F dX4_readItem_117 rfl ?_
          refine g_iadd F dX4_readItem_118 ?_
          refine g_iload_n F dX4_readItem_119 3 rfl rfl ?_
          refine g_iconst (v := 2) F dX4_readItem_120 rfl ?_
          refine g_icmp_ge (tgt := 131) F dX4_readItem_121 (by decide) (fun c69 => ?_) (fun c69 => absurd c69 (by decide))
          refine g_iload_n F dX4_readItem_131 3 rfl rfl ?_
          refine g_iconst (v := 5) F dX4_readItem_132 rfl ?_
          refine g_icmp_eq (tgt := 142) F dX4_readItem_133 (by decide) (fun c70 => ?_) (fun c70 => absurd c70 (by decide))
          refine g_iconst (v := 0) F dX4_readItem_142 rfl ?_
          refine g_goto (tgt := 150) F dX4_readItem_143 (by decide) ?_
          refine g_miast hN 19 (n := 180) (i := 1 + 3 * im) F (by decide) (by decide) rfl (mO_19 hN) (nadd (nmul (rfl : (3 : Int32) = nI 3) rfl) (rfl : (1 : Int32) = nI 1)) (show ((3 * im) + 1) = 1 + 3 * im by omega) (by omega) (by decide) dX4_readItem_150 ?_
          refine g_eqh (h' := (mO K h o L (pIv iv (pl + (wdP (av 13) n pl 9).2) 0 im) (mu av 19 (upd (upd (av 19) (3 * im) 5) (1 + 3 * im) 0)))) (by simp only [mu_s, mu_mu]; try rfl) ?_
          refine g_iload_n F dX4_readItem_151 3 rfl rfl ?_
          refine g_if_eq (tgt := 165) F dX4_readItem_152 (by decide) (fun c71 => absurd c71 (by decide)) (fun c71 => ?_)
          refine g_iload_n F dX4_readItem_155 3 rfl rfl ?_
          refine g_iconst (v := 2) F dX4_readItem_156 rfl ?_
          refine g_icmp_lt (tgt := 198) F dX4_readItem_157 (by decide) (fun c72 => absurd c72 (by decide)) (fun c72 => ?_)
          refine g_iload_n F dX4_readItem_160 3 rfl rfl ?_
          refine g_iconst (v := 4) F dX4_readItem_161 rfl ?_
          refine g_icmp_gt (tgt := 198) F dX4_readItem_162 (by decide) (fun c73 => ?_) (fun c73 => absurd c73 (by decide))
          refine g_aload_n F dX4_readItem_198 1 rfl rfl ?_
          refine g_dup F dX4_readItem_199 rfl ?_
          refine gf_X4_277_X4 (v := .int ((pIv iv (pl + (wdP (av 13) n pl 9).2) 0 im) 20)) F dX4_readItem_200 mO_o rfl ?_
          refine g_eqs (st' := [.int (nI im), .ref o]) (congrArg (fun z => [Value.int z, .ref o]) pIv_20) ?_
          refine g_iconst (v := 1) F dX4_readItem_203 rfl ?_
          refine g_iadd F dX4_readItem_204 ?_
          refine gp_X4_277_X4 F dX4_readItem_205 mO_o hN.1 (nle rfl) rfl (fun h_e74 e74 => ?_)
          refine g_mput (iv2 := upd (pIv iv (pl + (wdP (av 13) n pl 9).2) 0 im) 20 ((nI im) + 1)) e74 rfl ?_
          refine g_eqh (h' := (mO K h o L (pIv iv (pl + (wdP (av 13) n pl 9).2) 0 (im + 1)) (mu av 19 (upd (upd (av 19) (3 * im) 5) (1 + 3 * im) 0)))) (by rw [nI_1, pIv_m]) ?_
          have hR : riP (av 13) n pl 0 im (av 19) = (pl + (wdP (av 13) n pl 9).2, 0, im + 1, upd (upd (av 19) (3 * im) 5) (1 + 3 * im) 0) := (riP_k (k := 5) hw9 (by decide)).trans riK_5
          exact g_vret F dX4_readItem_208 (⟨rfl, by rw [hR]⟩)
        · refine g_eql (lv' := [(0, .ref o), (1, .int (nI ((wdP (av 13) n pl 9).2))), (2, .int 6)]) (by rw [hw9]; rfl) ?_
          refine g_aload_n F dX4_readItem_77 0 rfl rfl ?_
          refine g_iload_n F dX4_readItem_78 2 rfl rfl ?_
          refine g_if_ge (tgt := 86) F dX4_readItem_79 (by decide) (fun c75 => ?_) (fun c75 => absurd c75 (by decide))
          refine g_iconst (v := 0) F dX4_readItem_86 rfl ?_
          refine gp_X4_255_X4 F dX4_readItem_87 (by first | rfl | decide | (split <;> rfl)) (by first | rfl | decide | (split <;> rfl)) mO_o hN.1 (nle rfl) rfl (fun h_e76 e76 => ?_)
          refine g_mput (iv2 := upd (pIv iv (pl + (wdP (av 13) n pl 9).2) 0 im) 16 0) e76 rfl ?_
          refine g_eqh (h' := (mO K h o L (pIv iv (pl + (wdP (av 13) n pl 9).2) 0 im) av)) (by rw [pIv_w]) ?_
          refine g_aload_n F dX4_readItem_90 0 rfl rfl ?_
          refine gf_X4_255_X4 (v := .int ((pIv iv (pl + (wdP (av 13) n pl 9).2) 0 im) 16)) F dX4_readItem_91 mO_o rfl ?_
          refine g_eqs (st' := [.int 0]) (congrArg (fun z => [Value.int z]) pIv_16) ?_
          refine g_if_eq (tgt := 98) F dX4_readItem_94 (by decide) (fun c77 => ?_) (fun c77 => absurd c77 (by decide))
          refine g_iconst (v := 3) F dX4_readItem_98 rfl ?_
          refine g_aload_n F dX4_readItem_99 0 rfl rfl ?_
          refine gf_X4_277_X4 (v := .int ((pIv iv (pl + (wdP (av 13) n pl 9).2) 0 im) 20)) F dX4_readItem_100 mO_o rfl ?_
          refine g_eqs (st' := [.int (nI im), .int 3]) (congrArg (fun z => [Value.int z, .int 3]) pIv_20) ?_
          refine g_imul F dX4_readItem_103 ?_
          refine g_istore_n (lv' := [(3, .int (3 * (nI im))), (0, .ref o), (1, .int (nI ((wdP (av 13) n pl 9).2))), (2, .int 6)]) F dX4_readItem_104 rfl (by decide) rfl ?_
          refine g_aload_n F dX4_readItem_105 1 rfl rfl ?_
          refine gf_X4_63_X4 (v := .ref (L 19)) F dX4_readItem_106 mO_o rfl ?_
          refine g_iload_n F dX4_readItem_109 0 rfl rfl ?_
          refine g_iload_n F dX4_readItem_110 3 rfl rfl ?_
          refine g_miast hN 19 (n := 180) (i := 3 * im) F (by decide) (by decide) rfl (mO_19 hN) (nmul (rfl : (3 : Int32) = nI 3) rfl) (show (3 * im) = 3 * im by omega) (by omega) (by decide) dX4_readItem_111 ?_
          refine g_aload_n F dX4_readItem_112 1 rfl rfl ?_
          refine gf_X4_63_X4 (v := .ref (L 19)) F dX4_readItem_113 mO_o rfl ?_
          refine g_iload_n F dX4_readItem_116 0 rfl rfl ?_
          refine g_iconst (v := 1) F dX4_readItem_117 rfl ?_
          refine g_iadd F dX4_readItem_118 ?_
          refine g_iload_n F dX4_readItem_119 3 rfl rfl ?_
          refine g_iconst (v := 2) F dX4_readItem_120 rfl ?_
          refine g_icmp_ge (tgt := 131) F dX4_readItem_121 (by decide) (fun c78 => ?_) (fun c78 => absurd c78 (by decide))
          refine g_iload_n F dX4_readItem_131 3 rfl rfl ?_
          refine g_iconst (v := 5) F dX4_readItem_132 rfl ?_
          refine g_icmp_eq (tgt := 142) F dX4_readItem_133 (by decide) (fun c79 => absurd c79 (by decide)) (fun c79 => ?_)
          refine g_iload_n F dX4_readItem_136 3 rfl rfl ?_
          refine g_bipush (v := 8) F dX4_readItem_137 rfl ?_
          refine g_icmp_ne (tgt := 146) F dX4_readItem_139 (by decide) (fun c80 => ?_) (fun c80 => absurd c80 (by decide))
          refine g_aload_n F dX4_readItem_146 1 rfl rfl ?_
          have t81 := ct_X4_digit (h := h) (iv := iv) (av := mu av 19 (upd (av 19) (3 * im) 6)) (pl := pl + (wdP (av 13) n pl 9).2) (w := 0) (im := im) hN h14 hn (by omega)
          have t81l : (sgP (av 13) n 48 57 (pl + (wdP (av 13) n pl 9).2) 0).1 ≤ pl + (wdP (av 13) n pl 9).2 + 1 := sgP_le
          obtain ⟨rt81, hrt81⟩ : ∃ r, r = (sgP (av 13) n 48 57 (pl + (wdP (av 13) n pl 9).2) 0) := ⟨_, rfl⟩
          have t81 : gCt K yX4_digit w_X4_digit 3 66 0 0 (mO K h o L (pIv iv (pl + (wdP (av 13) n pl 9).2) 0 im) (mu av 19 (upd (av 19) (3 * im) 6))) [.ref o] (pR (.int rt81.2.2) (mO K h o L (pIv iv rt81.1 rt81.2.1 im) (mu av 19 (upd (av 19) (3 * im) 6)))) := by rw [hrt81]; exact t81
          rw [← hrt81] at t81l
          refine g_callV F dX4_readItem_147 mi_X4_digit q2653 q2655 qs64 gc_X4 mO_o t81 rfl rfl (nle rfl) (nle rfl) (nle rfl) (g_pur ?_) g_purX
          refine g_miast hN 19 (n := 180) (i := 1 + 3 * im) F (by decide) (by decide) rfl (mO_19 hN) (nadd (nmul (rfl : (3 : Int32) = nI 3) rfl) (rfl : (1 : Int32) = nI 1)) (show ((3 * im) + 1) = 1 + 3 * im by omega) (by omega) (by decide) dX4_readItem_150 ?_
          refine g_eqh (h' := (mO K h o L (pIv iv rt81.1 rt81.2.1 im) (mu av 19 (upd (upd (av 19) (3 * im) 6) (1 + 3 * im) rt81.2.2)))) (by simp only [mu_s, mu_mu]; try rfl) ?_
          refine g_iload_n F dX4_readItem_151 3 rfl rfl ?_
          refine g_if_eq (tgt := 165) F dX4_readItem_152 (by decide) (fun c82 => absurd c82 (by decide)) (fun c82 => ?_)
          refine g_iload_n F dX4_readItem_155 3 rfl rfl ?_
          refine g_iconst (v := 2) F dX4_readItem_156 rfl ?_
          refine g_icmp_lt (tgt := 198) F dX4_readItem_157 (by decide) (fun c83 => absurd c83 (by decide)) (fun c83 => ?_)
          refine g_iload_n F dX4_readItem_160 3 rfl rfl ?_
          refine g_iconst (v := 4) F dX4_readItem_161 rfl ?_
          refine g_icmp_gt (tgt := 198) F dX4_readItem_162 (by decide) (fun c84 => ?_) (fun c84 => absurd c84 (by decide))
          refine g_aload_n F dX4_readItem_198 1 rfl rfl ?_
          refine g_dup F dX4_readItem_199 rfl ?_
          refine gf_X4_277_X4 (v := .int ((pIv iv rt81.1 rt81.2.1 im) 20)) F dX4_readItem_200 mO_o rfl ?_
          refine g_eqs (st' := [.int (nI im), .ref o]) (congrArg (fun z => [Value.int z, .ref o]) pIv_20) ?_
          refine g_iconst (v := 1) F dX4_readItem_203 rfl ?_
          refine g_iadd F dX4_readItem_204 ?_
          refine gp_X4_277_X4 F dX4_readItem_205 mO_o hN.1 (nle rfl) rfl (fun h_e85 e85 => ?_)
          refine g_mput (iv2 := upd (pIv iv rt81.1 rt81.2.1 im) 20 ((nI im) + 1)) e85 rfl ?_
          refine g_eqh (h' := (mO K h o L (pIv iv rt81.1 rt81.2.1 (im + 1)) (mu av 19 (upd (upd (av 19) (3 * im) 6) (1 + 3 * im) rt81.2.2)))) (by rw [nI_1, pIv_m]) ?_
          have hR : riP (av 13) n pl 0 im (av 19) = (rt81.1, rt81.2.1, im + 1, upd (upd (av 19) (3 * im) 6) (1 + 3 * im) rt81.2.2) := (riP_k (k := 6) hw9 (by decide)).trans (riK_6 hrt81)
          exact g_vret F dX4_readItem_208 (⟨rfl, by rw [hR]⟩)
        · refine g_eql (lv' := [(0, .ref o), (1, .int (nI ((wdP (av 13) n pl 9).2))), (2, .int 7)]) (by rw [hw9]; rfl) ?_
          refine g_aload_n F dX4_readItem_77 0 rfl rfl ?_
          refine g_iload_n F dX4_readItem_78 2 rfl rfl ?_
          refine g_if_ge (tgt := 86) F dX4_readItem_79 (by decide) (fun c86 => ?_) (fun c86 => absurd c86 (by decide))
          refine g_iconst (v := 0) F dX4_readItem_86 rfl ?_
          refine gp_X4_255_X4 F dX4_readItem_87 (by first | rfl | decide | (split <;> rfl)) (by first | rfl | decide | (split <;> rfl)) mO_o hN.1 (nle rfl) rfl (fun h_e87 e87 => ?_)
          refine g_mput (iv2 := upd (pIv iv (pl + (wdP (av 13) n pl 9).2) 0 im) 16 0) e87 rfl ?_
          refine g_eqh (h' := (mO K h o L (pIv iv (pl + (wdP (av 13) n pl 9).2) 0 im) av)) (by rw [pIv_w]) ?_
          refine g_aload_n F dX4_readItem_90 0 rfl rfl ?_
          refine gf_X4_255_X4 (v := .int ((pIv iv (pl + (wdP (av 13) n pl 9).2) 0 im) 16)) F dX4_readItem_91 mO_o rfl ?_
          refine g_eqs (st' := [.int 0]) (congrArg (fun z => [Value.int z]) pIv_16) ?_
          refine g_if_eq (tgt := 98) F dX4_readItem_94 (by decide) (fun c88 => ?_) (fun c88 => absurd c88 (by decide))
          refine g_iconst (v := 3) F dX4_readItem_98 rfl ?_
          refine g_aload_n F dX4_readItem_99 0 rfl rfl ?_
          refine gf_X4_277_X4 (v := .int ((pIv iv (pl + (wdP (av 13) n pl 9).2) 0 im) 20)) F dX4_readItem_100 mO_o rfl ?_
          refine g_eqs (st' := [.int (nI im), .int 3]) (congrArg (fun z => [Value.int z, .int 3]) pIv_20) ?_
          refine g_imul F dX4_readItem_103 ?_
          refine g_istore_n (lv' := [(3, .int (3 * (nI im))), (0, .ref o), (1, .int (nI ((wdP (av 13) n pl 9).2))), (2, .int 7)]) F dX4_readItem_104 rfl (by decide) rfl ?_
          refine g_aload_n F dX4_readItem_105 1 rfl rfl ?_
          refine gf_X4_63_X4 (v := .ref (L 19)) F dX4_readItem_106 mO_o rfl ?_
          refine g_iload_n F dX4_readItem_109 0 rfl rfl ?_
          refine g_iload_n F dX4_readItem_110 3 rfl rfl ?_
          refine g_miast hN 19 (n := 180) (i := 3 * im) F (by decide) (by decide) rfl (mO_19 hN) (nmul (rfl : (3 : Int32) = nI 3) rfl) (show (3 * im) = 3 * im by omega) (by omega) (by decide) dX4_readItem_111 ?_
          refine g_aload_n F dX4_readItem_112 1 rfl rfl ?_
          refine gf_X4_63_X4 (v := .ref (L 19)) F dX4_readItem_113 mO_o rfl ?_
          refine g_iload_n F dX4_readItem_116 0 rfl rfl ?_
          refine g_iconst (v := 1) F dX4_readItem_117 rfl ?_
          refine g_iadd F dX4_readItem_118 ?_
          refine g_iload_n F dX4_readItem_119 3 rfl rfl ?_
          refine g_iconst (v := 2) F dX4_readItem_120 rfl ?_
          refine g_icmp_ge (tgt := 131) F dX4_readItem_121 (by decide) (fun c89 => ?_) (fun c89 => absurd c89 (by decide))
          refine g_iload_n F dX4_readItem_131 3 rfl rfl ?_
          refine g_iconst (v := 5) F dX4_readItem_132 rfl ?_
          refine g_icmp_eq (tgt := 142) F dX4_readItem_133 (by decide) (fun c90 => absurd c90 (by decide)) (fun c90 => ?_)
          refine g_iload_n F dX4_readItem_136 3 rfl rfl ?_
          refine g_bipush (v := 8) F dX4_readItem_137 rfl ?_
          refine g_icmp_ne (tgt := 146) F dX4_readItem_139 (by decide) (fun c91 => ?_) (fun c91 => absurd c91 (by decide))
          refine g_aload_n F dX4_readItem_146 1 rfl rfl ?_
          have t92 := ct_X4_digit (h := h) (iv := iv) (av := mu av 19 (upd (av 19) (3 * im) 7)) (pl := pl + (wdP (av 13) n pl 9).2) (w := 0) (im := im) hN h14 hn (by omega)
          have t92l : (sgP (av 13) n 48 57 (pl + (wdP (av 13) n pl 9).2) 0).1 ≤ pl + (wdP (av 13) n pl 9).2 + 1 := sgP_le
          obtain ⟨rt92, hrt92⟩ : ∃ r, r = (sgP (av 13) n 48 57 (pl + (wdP (av 13) n pl 9).2) 0) := ⟨_, rfl⟩
          have t92 : gCt K yX4_digit w_X4_digit 3 66 0 0 (mO K h o L (pIv iv (pl + (wdP (av 13) n pl 9).2) 0 im) (mu av 19 (upd (av 19) (3 * im) 7))) [.ref o] (pR (.int rt92.2.2) (mO K h o L (pIv iv rt92.1 rt92.2.1 im) (mu av 19 (upd (av 19) (3 * im) 7)))) := by rw [hrt92]; exact t92
          rw [← hrt92] at t92l
          refine g_callV F dX4_readItem_147 mi_X4_digit q2653 q2655 qs64 gc_X4 mO_o t92 rfl rfl (nle rfl) (nle rfl) (nle rfl) (g_pur ?_) g_purX
          refine g_miast hN 19 (n := 180) (i := 1 + 3 * im) F (by decide) (by decide) rfl (mO_19 hN) (nadd (nmul (rfl : (3 : Int32) = nI 3) rfl) (rfl : (1 : Int32) = nI 1)) (show ((3 * im) + 1) = 1 + 3 * im by omega) (by omega) (by decide) dX4_readItem_150 ?_
          refine g_eqh (h' := (mO K h o L (pIv iv rt92.1 rt92.2.1 im) (mu av 19 (upd (upd (av 19) (3 * im) 7) (1 + 3 * im) rt92.2.2)))) (by simp only [mu_s, mu_mu]; try rfl) ?_
          refine g_iload_n F dX4_readItem_151 3 rfl rfl ?_
          refine g_if_eq (tgt := 165) F dX4_readItem_152 (by decide) (fun c93 => absurd c93 (by decide)) (fun c93 => ?_)
          refine g_iload_n F dX4_readItem_155 3 rfl rfl ?_
          refine g_iconst (v := 2) F dX4_readItem_156 rfl ?_
          refine g_icmp_lt (tgt := 198) F dX4_readItem_157 (by decide) (fun c94 => absurd c94 (by decide)) (fun c94 => ?_)
          refine g_iload_n F dX4_readItem_160 3 rfl rfl ?_
          refine g_iconst (v := 4) F dX4_readItem_161 rfl ?_
          refine g_icmp_gt (tgt := 198) F dX4_readItem_162 (by decide) (fun c95 => ?_) (fun c95 => absurd c95 (by decide))
          refine g_aload_n F dX4_readItem_198 1 rfl rfl ?_
          refine g_dup F dX4_readItem_199 rfl ?_
          refine gf_X4_277_X4 (v := .int ((pIv iv rt92.1 rt92.2.1 im) 20)) F dX4_readItem_200 mO_o rfl ?_
          refine g_eqs (st' := [.int (nI im), .ref o]) (congrArg (fun z => [Value.int z, .ref o]) pIv_20) ?_
          refine g_iconst (v := 1) F dX4_readItem_203 rfl ?_
          refine g_iadd F dX4_readItem_204 ?_
          refine gp_X4_277_X4 F dX4_readItem_205 mO_o hN.1 (nle rfl) rfl (fun h_e96 e96 => ?_)
          refine g_mput (iv2 := upd (pIv iv rt92.1 rt92.2.1 im) 20 ((nI im) + 1)) e96 rfl ?_
          refine g_eqh (h' := (mO K h o L (pIv iv rt92.1 rt92.2.1 (im + 1)) (mu av 19 (upd (upd (av 19) (3 * im) 7) (1 + 3 * im) rt92.2.2)))) (by rw [nI_1, pIv_m]) ?_
          have hR : riP (av 13) n pl 0 im (av 19) = (rt92.1, rt92.2.1, im + 1, upd (upd (av 19) (3 * im) 7) (1 + 3 * im) rt92.2.2) := (riP_k (k := 7) hw9 (by decide)).trans (riK_7 hrt92)
          exact g_vret F dX4_readItem_208 (⟨rfl, by rw [hR]⟩)
        · refine g_eql (lv' := [(0, .ref o), (1, .int (nI ((wdP (av 13) n pl 9).2))), (2, .int 8)]) (by rw [hw9]; rfl) ?_
          refine g_aload_n F dX4_readItem_77 0 rfl rfl ?_
          refine g_iload_n F dX4_readItem_78 2 rfl rfl ?_
          refine g_if_ge (tgt := 86) F dX4_readItem_79 (by decide) (fun c97 => ?_) (fun c97 => absurd c97 (by decide))
          refine g_iconst (v := 0) F dX4_readItem_86 rfl ?_
          refine gp_X4_255_X4 F dX4_readItem_87 (by first | rfl | decide | (split <;> rfl)) (by first | rfl | decide | (split <;> rfl)) mO_o hN.1 (nle rfl) rfl (fun h_e98 e98 => ?_)
          refine g_mput (iv2 := upd (pIv iv (pl + (wdP (av 13) n pl 9).2) 0 im) 16 0) e98 rfl ?_
          refine g_eqh (h' := (mO K h o L (pIv iv (pl + (wdP (av 13) n pl 9).2) 0 im) av)) (by rw [pIv_w]) ?_
          refine g_aload_n F dX4_readItem_90 0 rfl rfl ?_
          refine gf_X4_255_X4 (v := .int ((pIv iv (pl + (wdP (av 13) n pl 9).2) 0 im) 16)) F dX4_readItem_91 mO_o rfl ?_
          refine g_eqs (st' := [.int 0]) (congrArg (fun z => [Value.int z]) pIv_16) ?_
          refine g_if_eq (tgt := 98) F dX4_readItem_94 (by decide) (fun c99 => ?_) (fun c99 => absurd c99 (by decide))
          refine g_iconst (v := 3) F dX4_readItem_98 rfl ?_
          refine g_aload_n F dX4_readItem_99 0 rfl rfl ?_
          refine gf_X4_277_X4 (v := .int ((pIv iv (pl + (wdP (av 13) n pl 9).2) 0 im) 20)) F dX4_readItem_100 mO_o rfl ?_
          refine g_eqs (st' := [.int (nI im), .int 3]) (congrArg (fun z => [Value.int z, .int 3]) pIv_20) ?_
          refine g_imul F dX4_readItem_103 ?_
          refine g_istore_n (lv' := [(3, .int (3 * (nI im))), (0, .ref o), (1, .int (nI ((wdP (av 13) n pl 9).2))), (2, .int 8)]) F dX4_readItem_104 rfl (by decide) rfl ?_
          refine g_aload_n F dX4_readItem_105 1 rfl rfl ?_
          refine gf_X4_63_X4 (v := .ref (L 19)) F dX4_readItem_106 mO_o rfl ?_
          refine g_iload_n F dX4_readItem_109 0 rfl rfl ?_
          refine g_iload_n F dX4_readItem_110 3 rfl rfl ?_
          refine g_miast hN 19 (n := 180) (i := 3 * im) F (by decide) (by decide) rfl (mO_19 hN) (nmul (rfl : (3 : Int32) = nI 3) rfl) (show (3 * im) = 3 * im by omega) (by omega) (by decide) dX4_readItem_111 ?_
          refine g_aload_n F dX4_readItem_112 1 rfl rfl ?_
          refine gf_X4_63_X4 (v := .ref (L 19)) F dX4_readItem_113 mO_o rfl ?_
          refine g_iload_n F dX4_readItem_116 0 rfl rfl ?_
          refine g_iconst (v := 1) F dX4_readItem_117 rfl ?_
          refine g_iadd F dX4_readItem_118 ?_
          refine g_iload_n F dX4_readItem_119 3 rfl rfl ?_
          refine g_iconst (v := 2) F dX4_readItem_120 rfl ?_
          refine g_icmp_ge (tgt := 131) F dX4_readItem_121 (by decide) (fun c100 => ?_) (fun c100 => absurd c100 (by decide))
          refine g_iload_n F dX4_readItem_131 3 rfl rfl ?_
          refine g_iconst (v := 5) F dX4_readItem_132 rfl ?_
          refine g_icmp_eq (tgt := 142) F dX4_readItem_133 (by decide) (fun c101 => absurd c101 (by decide)) (fun c101 => ?_)
          refine g_iload_n F dX4_readItem_136 3 rfl rfl ?_
          refine g_bipush (v := 8) F dX4_readItem_137 rfl ?_
          refine g_icmp_ne (tgt := 146) F dX4_readItem_139 (by decide) (fun c102 => absurd c102 (by decide)) (fun c102 => ?_)
          refine g_iconst (v := 0) F dX4_readItem_142 rfl ?_
          refine g_goto (tgt := 150) F dX4_readItem_143 (by decide) ?_
          refine g_miast hN 19 (n := 180) (i := 1 + 3 * im) F (by decide) (by decide) rfl (mO_19 hN) (nadd (nmul (rfl : (3 : Int32) = nI 3) rfl) (rfl : (1 : Int32) = nI 1)) (show ((3 * im) + 1) = 1 + 3 * im by omega) (by omega) (by decide) dX4_readItem_150 ?_
          refine g_eqh (h' := (mO K h o L (pIv iv (pl + (wdP (av 13) n pl 9).2) 0 im) (mu av 19 (upd (upd (av 19) (3 * im) 8) (1 + 3 * im) 0)))) (by simp only [mu_s, mu_mu]; try rfl) ?_
          refine g_iload_n F dX4_readItem_151 3 rfl rfl ?_
          refine g_if_eq (tgt := 165) F dX4_readItem_152 (by decide) (fun c103 => absurd c103 (by decide)) (fun c103 => ?_)
          refine g_iload_n F dX4_readItem_155 3 rfl rfl ?_
          refine g_iconst (v := 2) F dX4_readItem_156 rfl ?_
          refine g_icmp_lt (tgt := 198) F dX4_readItem_157 (by decide) (fun c104 => absurd c104 (by decide)) (fun c104 => ?_)
          refine g_iload_n F dX4_readItem_160 3 rfl rfl ?_
          refine g_iconst (v := 4) F dX4_readItem_161 rfl ?_
          refine g_icmp_gt (tgt := 198) F dX4_readItem_162 (by decide) (fun c105 => ?_) (fun c105 => absurd c105 (by decide))
          refine g_aload_n F dX4_readItem_198 1 rfl rfl ?_
          refine g_dup F dX4_readItem_199 rfl ?_
          refine gf_X4_277_X4 (v := .int ((pIv iv (pl + (wdP (av 13) n pl 9).2) 0 im) 20)) F dX4_readItem_200 mO_o rfl ?_
          refine g_eqs (st' := [.int (nI im), .ref o]) (congrArg (fun z => [Value.int z, .ref o]) pIv_20) ?_
          refine g_iconst (v := 1) F dX4_readItem_203 rfl ?_
          refine g_iadd F dX4_readItem_204 ?_
          refine gp_X4_277_X4 F dX4_readItem_205 mO_o hN.1 (nle rfl) rfl (fun h_e106 e106 => ?_)
          refine g_mput (iv2 := upd (pIv iv (pl + (wdP (av 13) n pl 9).2) 0 im) 20 ((nI im) + 1)) e106 rfl ?_
          refine g_eqh (h' := (mO K h o L (pIv iv (pl + (wdP (av 13) n pl 9).2) 0 (im + 1)) (mu av 19 (upd (upd (av 19) (3 * im) 8) (1 + 3 * im) 0)))) (by rw [nI_1, pIv_m]) ?_
          have hR : riP (av 13) n pl 0 im (av 19) = (pl + (wdP (av 13) n pl 9).2, 0, im + 1, upd (upd (av 19) (3 * im) 8) (1 + 3 * im) 0) := (riP_k (k := 8) hw9 (by decide)).trans riK_8
          exact g_vret F dX4_readItem_208 (⟨rfl, by rw [hR]⟩)
    · have hlt : k < 9 := gbody (by decide) hk c1
      obtain ⟨bb, hv, zv, ho1, ho2⟩ := hS (9 + k) (by omega)
      refine g_aload_n F dX4_readItem_15 0 rfl rfl ?_
      refine gf_X4_255_X4 (v := .int ((pIv iv pl 0 im) 16)) F dX4_readItem_16 mO_o rfl ?_
      refine g_eqs (st' := [.int 0]) (congrArg (fun z => [Value.int z]) pIv_16) ?_
      refine g_if_ne (tgt := 67) F dX4_readItem_19 (by decide) (fun c107 => absurd c107 (by decide)) (fun c107 => ?_)
      refine g_aload_n F dX4_readItem_22 0 rfl rfl ?_
      refine g_aload_n F dX4_readItem_23 0 rfl rfl ?_
      refine gf_X4_49_X4 (v := .ref (L 12)) F dX4_readItem_24 mO_o rfl ?_
      refine g_iload_n F dX4_readItem_27 3 rfl rfl ?_
      refine g_saldN (i := k) (v := .ref (gAd K (9 + k))) F (mO_12 hN) (hN.2.1 12 (by decide)) rfl rfl hlt (by decide) (mWd_k hlt) dX4_readItem_28 ?_
      have t108 := ct_X4_alike (h := h) (iv := iv) (av := av) (pl := pl) (w := 0) (im := im) hN h14 hn (by omega) (hS (9 + k) (by omega)) (Nat.le_trans (sTx_len hlt) (by decide)) (sTx_c hlt)
      refine g_callV F dX4_readItem_29 mi_X4_alike q2645 q2647 qs62 gc_X4 mO_o t108 rfl rfl (nle rfl) (nle rfl) (nle rfl) (g_pur ?_) g_purX
      refine g_istore (lv' := [(4, .int (nI (xAl (av 13) n (sTx (9 + k)) pl))), (0, .ref o), (1, .int (nI ((wdP (av 13) n pl k).2))), (2, .int ((wdP (av 13) n pl k).1)), (3, .int (nI k))]) F dX4_readItem_32 (by decide) rfl ?_
      refine g_iload F dX4_readItem_34 0 rfl ?_
      refine g_aload_n F dX4_readItem_36 1 rfl rfl ?_
      refine gf_X4_49_X4 (v := .ref (L 12)) F dX4_readItem_37 mO_o rfl ?_
      refine g_iload_n F dX4_readItem_40 4 rfl rfl ?_
      refine g_old ho1 (fun hs109 => ?_)
      refine g_old ho2 (fun hb110 => ?_)
      refine g_saldN (i := k) (v := .ref (gAd K (9 + k))) F (mO_12 hN) (hN.2.1 12 (by decide)) rfl rfl hlt (by decide) (mWd_k hlt) dX4_readItem_41 ?_
      refine g_callV F dX4_readItem_42 mi_J6_length q2589 q888 q889 gc_J6 hs109 (ct_J6_length hs109 hb110 (by have := sTx_len hlt; omega)) rfl rfl (nle rfl) (nle rfl) (nle rfl) (g_pur ?_) g_purX
      refine g_icmp_ne (tgt := 52) F dX4_readItem_45 (by decide) (fun c111 => ?_) (fun c111 => ?_)
      · have dw : ¬ xAl (av 13) n (sTx (9 + k)) pl = (sTx (9 + k)).length := fun z => c111 (by rw [z])
        refine g_iload_n F dX4_readItem_52 3 rfl rfl ?_
        refine g_istore_n (lv' := [(2, .int ((wdP (av 13) n pl k).1)), (4, .int (nI (xAl (av 13) n (sTx (9 + k)) pl))), (0, .ref o), (1, .int (nI ((wdP (av 13) n pl k).2))), (3, .int (nI k))]) F dX4_readItem_53 rfl (by decide) rfl ?_
        refine g_iload_n F dX4_readItem_54 3 rfl rfl ?_
        refine g_iload F dX4_readItem_55 1 rfl ?_
        refine g_callS F dX4_readItem_57 mi_J16_max q2398 q664 ct_J16_max rfl rfl (nle rfl) (nle rfl) (nle rfl) (g_pur ?_) g_purX
        refine g_istore_n (lv' := [(1, .int (mMax (nI ((wdP (av 13) n pl k).2)) (nI (xAl (av 13) n (sTx (9 + k)) pl)))), (2, .int ((wdP (av 13) n pl k).1)), (4, .int (nI (xAl (av 13) n (sTx (9 + k)) pl))), (0, .ref o), (3, .int (nI k))]) F dX4_readItem_60 rfl (by decide) rfl ?_
        refine g_iinc (lv' := [(3, .int ((nI k) + 1)), (1, .int (mMax (nI ((wdP (av 13) n pl k).2)) (nI (xAl (av 13) n (sTx (9 + k)) pl)))), (2, .int ((wdP (av 13) n pl k).1)), (4, .int (nI (xAl (av 13) n (sTx (9 + k)) pl))), (0, .ref o)]) (v := (nI k) + 1) F dX4_readItem_61 (k := 4) rfl rfl (by decide) rfl ?_
        refine g_goto (tgt := 6) F dX4_readItem_64 (by decide) ?_
        refine g_lv (lv' := [(0, .ref o), (1, .int (mMax (nI ((wdP (av 13) n pl k).2)) (nI (xAl (av 13) n (sTx (9 + k)) pl)))), (2, .int ((wdP (av 13) n pl k).1)), (3, .int ((nI k) + 1))]) [4, 1, 2, 0] rfl ?_
        exact g_eql (lv' := [(0, .ref o), (1, .int (nI ((wdP (av 13) n pl (k + 1)).2))), (2, .int ((wdP (av 13) n pl (k + 1)).1)), (3, .int (nI (k + 1)))]) (by simp only [nI_1, wdP_s]; rw [mMax_N (by have := wdP_m (t := av 13) (n := n) (p := pl) (k := k) (by omega); omega) (by have := xAl_le (t := av 13) (n := n) (l := sTx (9 + k)) (p := pl); have := sTx_len hlt; omega)]; simp only [dw, if_true, if_false]) (ih hlt)
      · have dw : xAl (av 13) n (sTx (9 + k)) pl = (sTx (9 + k)).length := (nI_eq (by have := xAl_le (t := av 13) (n := n) (l := sTx (9 + k)) (p := pl); have := sTx_len hlt; omega) (by have := sTx_len hlt; omega)).mp c111
        refine g_iload_n F dX4_readItem_48 4 rfl rfl ?_
        refine g_goto (tgt := 53) F dX4_readItem_49 (by decide) ?_
        refine g_istore_n (lv' := [(2, .int (nI k)), (4, .int (nI (xAl (av 13) n (sTx (9 + k)) pl))), (0, .ref o), (1, .int (nI ((wdP (av 13) n pl k).2))), (3, .int (nI k))]) F dX4_readItem_53 rfl (by decide) rfl ?_
        refine g_iload_n F dX4_readItem_54 3 rfl rfl ?_
        refine g_iload F dX4_readItem_55 1 rfl ?_
        refine g_callS F dX4_readItem_57 mi_J16_max q2398 q664 ct_J16_max rfl rfl (nle rfl) (nle rfl) (nle rfl) (g_pur ?_) g_purX
        refine g_istore_n (lv' := [(1, .int (mMax (nI ((wdP (av 13) n pl k).2)) (nI (xAl (av 13) n (sTx (9 + k)) pl)))), (2, .int (nI k)), (4, .int (nI (xAl (av 13) n (sTx (9 + k)) pl))), (0, .ref o), (3, .int (nI k))]) F dX4_readItem_60 rfl (by decide) rfl ?_
        refine g_iinc (lv' := [(3, .int ((nI k) + 1)), (1, .int (mMax (nI ((wdP (av 13) n pl k).2)) (nI (xAl (av 13) n (sTx (9 + k)) pl)))), (2, .int (nI k)), (4, .int (nI (xAl (av 13) n (sTx (9 + k)) pl))), (0, .ref o)]) (v := (nI k) + 1) F dX4_readItem_61 (k := 4) rfl rfl (by decide) rfl ?_
        refine g_goto (tgt := 6) F dX4_readItem_64 (by decide) ?_
        refine g_lv (lv' := [(0, .ref o), (1, .int (mMax (nI ((wdP (av 13) n pl k).2)) (nI (xAl (av 13) n (sTx (9 + k)) pl)))), (2, .int (nI k)), (3, .int ((nI k) + 1))]) [4, 1, 2, 0] rfl ?_
        exact g_eql (lv' := [(0, .ref o), (1, .int (nI ((wdP (av 13) n pl (k + 1)).2))), (2, .int ((wdP (av 13) n pl (k + 1)).1)), (3, .int (nI (k + 1)))]) (by simp only [nI_1, wdP_s]; rw [mMax_N (by have := wdP_m (t := av 13) (n := n) (p := pl) (k := k) (by omega); omega) (by have := xAl_le (t := av 13) (n := n) (l := sTx (9 + k)) (p := pl); have := sTx_len hlt; omega)]; simp only [dw, if_true, if_false]) (ih hlt)
  exact lp 0 (Nat.zero_le _)
