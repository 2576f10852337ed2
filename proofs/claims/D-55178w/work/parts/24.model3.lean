/-! ===== THE REFERENCE: its plain calls and its questions (written by tools/model3.py) ===== -/
theorem mu_e {av : Nat → Nat → Int32} {i j : Nat} {f : Nat → Int32} : mu av j f i = if i = j then f else av i := rfl
set_option maxHeartbeats 4000000 in
set_option maxRecDepth 100000 in
theorem ct_X4_told {K : gK} {h : AH} {o : Nat} {L : Nat → Nat} {iv : Nat → Int32} {av : Nat → Nat → Int32} (hN : mN K o L) {x : Int32} {nb nc nh nq : Nat} (hC : mC (av 0) nb nc nh nq) (hL : mL (av 0) nb nc nq) (hz : mZ av) {np : Nat} (h6 : iv 6 = nI np) (hnp : np ≤ 8) : gCt K yX4_told w_X4_told 2 61 0 0 (mO K h o L iv av) [.ref o, .int x] (pR (.int (xRet (xTold (av 0) x))) (mO K h o L (xSIv iv (xTold (av 0) x) np) (xSAv av (xTold (av 0) x) np))) := by
  refine g_meth pf_X4_told (nle rfl) (fun p e s m args below meth c F hnm htb => ?_)
  have F : gFix K p s m args meth c cX4_told 3 RX4 (some .int) := F
  refine g_eql (lv' := [(0, .ref o), (1, .int x)]) rfl ?_
  obtain ⟨h1, hb, h2, hc, h3, hh, h4, hq⟩ := hC
  refine g_aload_n F dX4_told_0 0 rfl rfl ?_
  refine g_callV F dX4_told_1 mi_X4_keep q2341 q2343 qs25 gc_X4 mO_o (ct_X4_keepZ hN hz) rfl rfl (nle rfl) (nle rfl) (nle rfl) (g_purv ?_) g_purvX
  refine g_aload_n F dX4_told_4 0 rfl rfl ?_
  refine gf_X4_9_X4 (v := .ref (L 0)) F dX4_told_5 mO_o rfl ?_
  refine g_iconst (v := 5) F dX4_told_8 rfl ?_
  refine g_ialdN (i := 5) F (mO_0 hN) (rfl : (5 : Int32) = nI 5) (show 5 = 5 by omega) (by omega) (by decide) dX4_told_9 ?_
  refine g_istore_n (lv' := [(2, .int (av 0 5)), (0, .ref o), (1, .int x)]) F dX4_told_10 rfl (by decide) rfl ?_
  refine g_iload_n F dX4_told_11 2 rfl rfl ?_
  refine g_iconst (v := 0) F dX4_told_12 rfl ?_
  refine g_bipush (v := 40) F dX4_told_13 rfl ?_
  refine g_callS F dX4_told_15 mi_X4_in q2346 q2347 ct_X4_in rfl rfl (nle rfl) (nle rfl) (nle rfl) (g_pur ?_) g_purX
  refine g_if_ne (tgt := 27) F dX4_told_18 (by decide) (fun c1 => ?_) (fun c1 => ?_)
  · refine g_aload_n F dX4_told_27 1 rfl rfl ?_
    refine gf_X4_9_X4 (v := .ref (L 0)) F dX4_told_28 mO_o rfl ?_
    refine g_iconst (v := 5) F dX4_told_31 rfl ?_
    refine g_iload_n F dX4_told_32 2 rfl rfl ?_
    refine g_miast hN 0 (n := 131) (i := 5) F (by decide) (by decide) rfl (mO_0 hN) (rfl : (5 : Int32) = nI 5) (show 5 = 5 by omega) (by omega) (by decide) dX4_told_33 ?_
    refine g_aload_n F dX4_told_34 1 rfl rfl ?_
    refine g_iload_n F dX4_told_35 0 rfl rfl ?_
    refine g_callV F dX4_told_36 mi_X4_ends q2353 q2355 qs27 gc_X4 mO_o (ct_X4_endsO hN (np := np) pk_us ((pk_un (by decide)).trans h6) hnp) rfl rfl (nle rfl) (nle rfl) (nle rfl) (g_pur ?_) g_purX
    have hr : xTold (av 0) x = (.inl (av 0 5, upd (av 0) 5 x) : xR) := by grind [mu_e, xTold, nI_clamp]
    exact g_iret F dX4_told_39 (⟨by rw [hr]; rfl, by rw [hr]; rfl⟩)
  · refine g_aload_n F dX4_told_21 1 rfl rfl ?_
    refine g_iconst (v := 1) F dX4_told_22 rfl ?_
    refine g_callV F dX4_told_23 mi_X4_fails q2349 q2351 qs26 gc_X4 mO_o (ct_X4_fails hN) rfl rfl (nle rfl) (nle rfl) (nle rfl) (g_pur ?_) g_purX
    have hr : xTold (av 0) x = (.inr (1, none) : xR) := by grind [mu_e, xTold, nI_clamp]
    exact g_iret F dX4_told_26 (⟨by rw [hr]; rfl, by rw [hr]; rfl⟩)
set_option maxHeartbeats 4000000 in
set_option maxRecDepth 100000 in
theorem ct_X4_bar {K : gK} {h : AH} {o : Nat} {L : Nat → Nat} {iv : Nat → Int32} {av : Nat → Nat → Int32} (hN : mN K o L)  {nb nc nh nq : Nat} (hC : mC (av 0) nb nc nh nq) (hL : mL (av 0) nb nc nq) (hz : mZ av) {np : Nat} (h6 : iv 6 = nI np) (hnp : np ≤ 8) : gCt K yX4_bar w_X4_bar 2 61 0 0 (mO K h o L iv av) [.ref o] (pR (.int (xRet (xBar (av 0) nb))) (mO K h o L (xSIv iv (xBar (av 0) nb) np) (xSAv av (xBar (av 0) nb) np))) := by
  refine g_meth pf_X4_bar (nle rfl) (fun p e s m args below meth c F hnm htb => ?_)
  have F : gFix K p s m args meth c cX4_bar 3 RX4 (some .int) := F
  refine g_eql (lv' := [(0, .ref o)]) rfl ?_
  obtain ⟨h1, hb, h2, hc, h3, hh, h4, hq⟩ := hC
  refine g_aload_n F dX4_bar_0 0 rfl rfl ?_
  refine gf_X4_9_X4 (v := .ref (L 0)) F dX4_bar_1 mO_o rfl ?_
  refine g_iconst (v := 1) F dX4_bar_4 rfl ?_
  refine g_ialdN (i := 1) F (mO_0 hN) (rfl : (1 : Int32) = nI 1) (show 1 = 1 by omega) (by omega) (by decide) dX4_bar_5 ?_
  refine g_eqs (st' := [.int (nI nb)]) (congrArg (fun z => [Value.int z]) h1) ?_
  refine g_istore_n (lv' := [(1, .int (nI nb)), (0, .ref o)]) F dX4_bar_6 rfl (by decide) rfl ?_
  refine g_aload_n F dX4_bar_7 1 rfl rfl ?_
  refine g_callV F dX4_bar_8 mi_X4_keep q2341 q2343 qs25 gc_X4 mO_o (ct_X4_keepZ hN hz) rfl rfl (nle rfl) (nle rfl) (nle rfl) (g_purv ?_) g_purvX
  refine g_iload_n F dX4_bar_11 0 rfl rfl ?_
  refine g_bipush (v := 8) F dX4_bar_12 rfl ?_
  refine g_icmp_ne (tgt := 23) F dX4_bar_14 (by decide) (fun c1 => ?_) (fun c1 => ?_)
  · have hne : nb ≠ 8 := fun z => c1 (by rw [z]; rfl)
    refine g_iconst (v := 0) F dX4_bar_23 rfl ?_
    refine g_istore_n (lv' := [(2, .int 0), (1, .int (nI nb)), (0, .ref o)]) F dX4_bar_24 rfl (by decide) rfl ?_
    refine g_iload_n F dX4_bar_25 0 rfl rfl ?_
    refine g_iconst (v := 4) F dX4_bar_26 rfl ?_
    refine g_icmp_ge (tgt := 43) F dX4_bar_27 (by decide) (fun c2 => absurd c2 (by decide)) (fun c2 => ?_)
    refine g_aload_n F dX4_bar_30 2 rfl rfl ?_
    refine g_iload_n F dX4_bar_31 1 rfl rfl ?_
    refine g_iload_n F dX4_bar_32 0 rfl rfl ?_
    refine g_iconst (v := 0) F dX4_bar_33 rfl ?_
    refine g_callV F dX4_bar_34 mi_X4_setBar q2361 q2363 qs28 gc_X4 mO_o (ct_X4_setBar hN (i := 11 + 4 * nb) (nto (nadd (nadd (rfl : (11 : Int32) = nI 11) (nmul (rfl : (4 : Int32) = nI 4) rfl)) (rfl : (0 : Int32) = nI 0)) (show ((11 + (4 * nb)) + 0) = 11 + 4 * nb by omega)) (by omega)) rfl rfl (nle rfl) (nle rfl) (nle rfl) (g_purv ?_) g_purvX
    refine g_iinc (lv' := [(2, .int 1), (1, .int (nI nb)), (0, .ref o)]) (v := 1) F dX4_bar_37 (k := 0) rfl rfl (by decide) rfl ?_
    refine g_goto (tgt := 25) F dX4_bar_40 (by decide) ?_
    refine g_iload_n F dX4_bar_25 0 rfl rfl ?_
    refine g_iconst (v := 4) F dX4_bar_26 rfl ?_
    refine g_icmp_ge (tgt := 43) F dX4_bar_27 (by decide) (fun c3 => absurd c3 (by decide)) (fun c3 => ?_)
    refine g_aload_n F dX4_bar_30 2 rfl rfl ?_
    refine g_iload_n F dX4_bar_31 1 rfl rfl ?_
    refine g_iload_n F dX4_bar_32 0 rfl rfl ?_
    refine g_iconst (v := 0) F dX4_bar_33 rfl ?_
    refine g_callV F dX4_bar_34 mi_X4_setBar q2361 q2363 qs28 gc_X4 mO_o (ct_X4_setBar hN (i := 12 + 4 * nb) (nto (nadd (nadd (rfl : (11 : Int32) = nI 11) (nmul (rfl : (4 : Int32) = nI 4) rfl)) (rfl : (1 : Int32) = nI 1)) (show ((11 + (4 * nb)) + 1) = 12 + 4 * nb by omega)) (by omega)) rfl rfl (nle rfl) (nle rfl) (nle rfl) (g_purv ?_) g_purvX
    refine g_eqh (h' := (mO K h o L (upd iv 7 0) (mu (mu av 1 (av 0)) 0 (upd (upd (av 0) (11 + 4 * nb) 0) (12 + 4 * nb) 0)))) (by simp only [mu_s, mu_mu]; try rfl) ?_
    refine g_iinc (lv' := [(2, .int 2), (1, .int (nI nb)), (0, .ref o)]) (v := 2) F dX4_bar_37 (k := 0) rfl rfl (by decide) rfl ?_
    refine g_goto (tgt := 25) F dX4_bar_40 (by decide) ?_
    refine g_iload_n F dX4_bar_25 0 rfl rfl ?_
    refine g_iconst (v := 4) F dX4_bar_26 rfl ?_
    refine g_icmp_ge (tgt := 43) F dX4_bar_27 (by decide) (fun c4 => absurd c4 (by decide)) (fun c4 => ?_)
    refine g_aload_n F dX4_bar_30 2 rfl rfl ?_
    refine g_iload_n F dX4_bar_31 1 rfl rfl ?_
    refine g_iload_n F dX4_bar_32 0 rfl rfl ?_
    refine g_iconst (v := 0) F dX4_bar_33 rfl ?_
    refine g_callV F dX4_bar_34 mi_X4_setBar q2361 q2363 qs28 gc_X4 mO_o (ct_X4_setBar hN (i := 13 + 4 * nb) (nto (nadd (nadd (rfl : (11 : Int32) = nI 11) (nmul (rfl : (4 : Int32) = nI 4) rfl)) (rfl : (2 : Int32) = nI 2)) (show ((11 + (4 * nb)) + 2) = 13 + 4 * nb by omega)) (by omega)) rfl rfl (nle rfl) (nle rfl) (nle rfl) (g_purv ?_) g_purvX
    refine g_eqh (h' := (mO K h o L (upd iv 7 0) (mu (mu av 1 (av 0)) 0 (upd (upd (upd (av 0) (11 + 4 * nb) 0) (12 + 4 * nb) 0) (13 + 4 * nb) 0)))) (by simp only [mu_s, mu_mu]; try rfl) ?_
    refine g_iinc (lv' := [(2, .int 3), (1, .int (nI nb)), (0, .ref o)]) (v := 3) F dX4_bar_37 (k := 0) rfl rfl (by decide) rfl ?_
    refine g_goto (tgt := 25) F dX4_bar_40 (by decide) ?_
    refine g_iload_n F dX4_bar_25 0 rfl rfl ?_
    refine g_iconst (v := 4) F dX4_bar_26 rfl ?_
    refine g_icmp_ge (tgt := 43) F dX4_bar_27 (by decide) (fun c5 => absurd c5 (by decide)) (fun c5 => ?_)
    refine g_aload_n F dX4_bar_30 2 rfl rfl ?_
    refine g_iload_n F dX4_bar_31 1 rfl rfl ?_
    refine g_iload_n F dX4_bar_32 0 rfl rfl ?_
    refine g_iconst (v := 0) F dX4_bar_33 rfl ?_
    refine g_callV F dX4_bar_34 mi_X4_setBar q2361 q2363 qs28 gc_X4 mO_o (ct_X4_setBar hN (i := 14 + 4 * nb) (nto (nadd (nadd (rfl : (11 : Int32) = nI 11) (nmul (rfl : (4 : Int32) = nI 4) rfl)) (rfl : (3 : Int32) = nI 3)) (show ((11 + (4 * nb)) + 3) = 14 + 4 * nb by omega)) (by omega)) rfl rfl (nle rfl) (nle rfl) (nle rfl) (g_purv ?_) g_purvX
    refine g_eqh (h' := (mO K h o L (upd iv 7 0) (mu (mu av 1 (av 0)) 0 (upd (upd (upd (upd (av 0) (11 + 4 * nb) 0) (12 + 4 * nb) 0) (13 + 4 * nb) 0) (14 + 4 * nb) 0)))) (by simp only [mu_s, mu_mu]; try rfl) ?_
    refine g_iinc (lv' := [(2, .int 4), (1, .int (nI nb)), (0, .ref o)]) (v := 4) F dX4_bar_37 (k := 0) rfl rfl (by decide) rfl ?_
    refine g_goto (tgt := 25) F dX4_bar_40 (by decide) ?_
    refine g_iload_n F dX4_bar_25 0 rfl rfl ?_
    refine g_iconst (v := 4) F dX4_bar_26 rfl ?_
    refine g_icmp_ge (tgt := 43) F dX4_bar_27 (by decide) (fun c6 => ?_) (fun c6 => absurd c6 (by decide))
    refine g_aload_n F dX4_bar_43 2 rfl rfl ?_
    refine gf_X4_9_X4 (v := .ref (L 0)) F dX4_bar_44 mO_o rfl ?_
    refine g_iconst (v := 1) F dX4_bar_47 rfl ?_
    refine g_dup2 F dX4_bar_48 rfl rfl ?_
    refine g_ialdN (i := 1) F (mO_0 hN) (rfl : (1 : Int32) = nI 1) (show 1 = 1 by omega) (by omega) (by decide) dX4_bar_49 ?_
    refine g_eqs (st' := [.int (nI nb), .int 1, .ref (L 0)]) (by simp (disch := omega) only [pk_un, mu_s, h1]) ?_
    refine g_iconst (v := 1) F dX4_bar_50 rfl ?_
    refine g_iadd F dX4_bar_51 ?_
    refine g_miast hN 0 (n := 131) (i := 1) F (by decide) (by decide) rfl (mO_0 hN) (rfl : (1 : Int32) = nI 1) (show 1 = 1 by omega) (by omega) (by decide) dX4_bar_52 ?_
    refine g_eqh (h' := (mO K h o L (upd iv 7 0) (mu (mu av 1 (av 0)) 0 (upd (upd (upd (upd (upd (av 0) (11 + 4 * nb) 0) (12 + 4 * nb) 0) (13 + 4 * nb) 0) (14 + 4 * nb) 0) 1 ((nI nb) + 1))))) (by simp only [mu_s, mu_mu]; try rfl) ?_
    refine g_aload_n F dX4_bar_53 2 rfl rfl ?_
    refine g_iload_n F dX4_bar_54 1 rfl rfl ?_
    refine g_callV F dX4_bar_55 mi_X4_ends q2353 q2355 qs27 gc_X4 mO_o (ct_X4_endsO hN (np := np) pk_us ((pk_un (by decide)).trans h6) hnp) rfl rfl (nle rfl) (nle rfl) (nle rfl) (g_pur ?_) g_purX
    have hr : xBar (av 0) nb = (.inl (nI nb, upd (upd (upd (upd (upd (av 0) (11 + 4 * nb) 0) (12 + 4 * nb) 0) (13 + 4 * nb) 0) (14 + 4 * nb) 0) 1 ((nI nb) + 1)) : xR) := by (simp only [xBar]; grind [nI_1, mu_e])
    exact g_iret F dX4_bar_58 (⟨by rw [hr]; rfl, by rw [hr]; rfl⟩)
  · have heq : nb = 8 := (nI_eq (by omega) (by decide)).mp (show nI nb = nI 8 from c1)
    refine g_aload_n F dX4_bar_17 1 rfl rfl ?_
    refine g_iconst (v := 1) F dX4_bar_18 rfl ?_
    refine g_callV F dX4_bar_19 mi_X4_fails q2349 q2351 qs26 gc_X4 mO_o (ct_X4_fails hN) rfl rfl (nle rfl) (nle rfl) (nle rfl) (g_pur ?_) g_purX
    have hr : xBar (av 0) nb = (.inr (1, none) : xR) := by (simp only [xBar]; grind [nI_1, mu_e])
    exact g_iret F dX4_bar_22 (⟨by rw [hr]; rfl, by rw [hr]; rfl⟩)
set_option maxHeartbeats 4000000 in
set_option maxRecDepth 100000 in
theorem ct_X4_rope {K : gK} {h : AH} {o : Nat} {L : Nat → Nat} {iv : Nat → Int32} {av : Nat → Nat → Int32} (hN : mN K o L) {x : Int32} {nb nc nh nq : Nat} (hC : mC (av 0) nb nc nh nq) (hL : mL (av 0) nb nc nq) (hz : mZ av) {np : Nat} (h6 : iv 6 = nI np) (hnp : np ≤ 8) : gCt K yX4_rope w_X4_rope 2 61 0 0 (mO K h o L iv av) [.ref o, .int x] (pR (.int (xRet (xRope (av 0) nb x))) (mO K h o L (xSIv iv (xRope (av 0) nb x) np) (xSAv av (xRope (av 0) nb x) np))) := by
  refine g_meth pf_X4_rope (nle rfl) (fun p e s m args below meth c F hnm htb => ?_)
  have F : gFix K p s m args meth c cX4_rope 3 RX4 (some .int) := F
  refine g_eql (lv' := [(0, .ref o), (1, .int x)]) rfl ?_
  obtain ⟨h1, hb, h2, hc, h3, hh, h4, hq⟩ := hC
  refine g_aload_n F dX4_rope_0 0 rfl rfl ?_
  refine g_callV F dX4_rope_1 mi_X4_keep q2341 q2343 qs25 gc_X4 mO_o (ct_X4_keepZ hN hz) rfl rfl (nle rfl) (nle rfl) (nle rfl) (g_purv ?_) g_purvX
  refine g_aload_n F dX4_rope_4 0 rfl rfl ?_
  refine g_iload_n F dX4_rope_5 1 rfl rfl ?_
  refine g_callV F dX4_rope_6 mi_X4_isBar q2369 q2371 qs29 gc_X4 mO_o (ct_X4_isBar (av := mu av 1 (av 0)) hN h1) rfl rfl (nle rfl) (nle rfl) (nle rfl) (g_pur ?_) g_purX
  refine g_if_ne (tgt := 18) F dX4_rope_9 (by decide) (fun c1 => ?_) (fun c1 => ?_)
  · obtain ⟨i, hi, rfl⟩ := xAt_i (by omega) c1
    refine g_aload_n F dX4_rope_18 0 rfl rfl ?_
    refine g_iload_n F dX4_rope_19 1 rfl rfl ?_
    refine g_iconst (v := 2) F dX4_rope_20 rfl ?_
    refine g_callV F dX4_rope_21 mi_X4_bar1 q2373 q2375 qs30 gc_X4 mO_o (ct_X4_bar1 hN (i := 13 + 4 * i) (nto (nadd (nadd (rfl : (11 : Int32) = nI 11) (nmul (rfl : (4 : Int32) = nI 4) rfl)) (rfl : (2 : Int32) = nI 2)) (show ((11 + (4 * i)) + 2) = 13 + 4 * i by omega)) (by omega)) rfl rfl (nle rfl) (nle rfl) (nle rfl) (g_pur ?_) g_purX
    refine g_istore_n (lv' := [(2, .int (av 0 (13 + 4 * i))), (0, .ref o), (1, .int (nI i))]) F dX4_rope_24 rfl (by decide) rfl ?_
    refine g_iload_n F dX4_rope_25 0 rfl rfl ?_
    refine g_if_ne (tgt := 38) F dX4_rope_26 (by decide) (fun c2 => ?_) (fun c2 => ?_)
    · refine g_aload_n F dX4_rope_38 1 rfl rfl ?_
      refine gf_X4_9_X4 (v := .ref (L 0)) F dX4_rope_39 mO_o rfl ?_
      refine g_bipush (v := 6) F dX4_rope_42 rfl ?_
      refine g_ialdN (i := 6) F (mO_0 hN) (rfl : (6 : Int32) = nI 6) (show 6 = 6 by omega) (by omega) (by decide) dX4_rope_44 ?_
      refine g_iconst (v := 5) F dX4_rope_45 rfl ?_
      refine g_icmp_ge (tgt := 66) F dX4_rope_46 (by decide) (fun c3 => ?_) (fun c3 => ?_)
      · have c9 : 5 ≤ av 0 6 := c3
        refine g_aload_n F dX4_rope_66 1 rfl rfl ?_
        refine gf_X4_9_X4 (v := .ref (L 0)) F dX4_rope_67 mO_o rfl ?_
        refine g_bipush (v := 6) F dX4_rope_70 rfl ?_
        refine g_dup2 F dX4_rope_72 rfl rfl ?_
        refine g_ialdN (i := 6) F (mO_0 hN) (rfl : (6 : Int32) = nI 6) (show 6 = 6 by omega) (by omega) (by decide) dX4_rope_73 ?_
        refine g_iconst (v := 5) F dX4_rope_74 rfl ?_
        refine g_isub F dX4_rope_75 ?_
        refine g_miast hN 0 (n := 131) (i := 6) F (by decide) (by decide) rfl (mO_0 hN) (rfl : (6 : Int32) = nI 6) (show 6 = 6 by omega) (by omega) (by decide) dX4_rope_76 ?_
        refine g_aload_n F dX4_rope_77 1 rfl rfl ?_
        refine g_iload_n F dX4_rope_78 2 rfl rfl ?_
        refine g_iconst (v := 2) F dX4_rope_79 rfl ?_
        refine g_iconst (v := 0) F dX4_rope_80 rfl ?_
        refine g_callV F dX4_rope_81 mi_X4_setBar q2361 q2363 qs28 gc_X4 mO_o (ct_X4_setBar hN (i := 13 + 4 * i) (nto (nadd (nadd (rfl : (11 : Int32) = nI 11) (nmul (rfl : (4 : Int32) = nI 4) rfl)) (rfl : (2 : Int32) = nI 2)) (show ((11 + (4 * i)) + 2) = 13 + 4 * i by omega)) (by omega)) rfl rfl (nle rfl) (nle rfl) (nle rfl) (g_purv ?_) g_purvX
        refine g_eqh (h' := (mO K h o L (upd iv 7 0) (mu (mu av 1 (av 0)) 0 (upd (upd (av 0) 6 ((av 0 6) - 5)) (13 + 4 * i) 0)))) (by simp only [mu_s, mu_mu]; try rfl) ?_
        refine g_aload_n F dX4_rope_84 1 rfl rfl ?_
        refine g_iload_n F dX4_rope_85 0 rfl rfl ?_
        refine g_callV F dX4_rope_86 mi_X4_ends q2353 q2355 qs27 gc_X4 mO_o (ct_X4_endsO hN (np := np) pk_us ((pk_un (by decide)).trans h6) hnp) rfl rfl (nle rfl) (nle rfl) (nle rfl) (g_pur ?_) g_purX
        have hr : xRope (av 0) nb (nI i) = (.inl (av 0 (13 + 4 * i), upd (upd (av 0) 6 ((av 0 6) - 5)) (13 + 4 * i) 0) : xR) := by grind [mu_e, xRope, xRope1, nI_clamp]
        exact g_iret F dX4_rope_89 (⟨by rw [hr]; rfl, by rw [hr]; rfl⟩)
      · have c9 : ¬ 5 ≤ av 0 6 := c3
        refine g_aload_n F dX4_rope_49 1 rfl rfl ?_
        refine g_iconst (v := 2) F dX4_rope_50 rfl ?_
        refine g_bipush (v := 12) F dX4_rope_51 rfl ?_
        refine g_iconst (v := 5) F dX4_rope_53 rfl ?_
        refine g_aload_n F dX4_rope_54 1 rfl rfl ?_
        refine gf_X4_9_X4 (v := .ref (L 0)) F dX4_rope_55 mO_o rfl ?_
        refine g_bipush (v := 6) F dX4_rope_58 rfl ?_
        refine g_ialdN (i := 6) F (mO_0 hN) (rfl : (6 : Int32) = nI 6) (show 6 = 6 by omega) (by omega) (by decide) dX4_rope_60 ?_
        refine g_isub F dX4_rope_61 ?_
        refine g_callV F dX4_rope_62 mi_X4_refuse q2407 q2409 qs37 gc_X4 mO_o (ct_X4_refuse hN) rfl rfl (nle rfl) (nle rfl) (nle rfl) (g_pur ?_) g_purX
        have hr : xRope (av 0) nb (nI i) = (.inr (2, some (12, 5 - (av 0 6))) : xR) := by grind [mu_e, xRope, xRope1, nI_clamp]
        exact g_iret F dX4_rope_65 (⟨by rw [hr]; rfl, by rw [hr]; rfl⟩)
    · refine g_aload_n F dX4_rope_29 1 rfl rfl ?_
      refine g_iconst (v := 2) F dX4_rope_30 rfl ?_
      refine g_bipush (v := 11) F dX4_rope_31 rfl ?_
      refine g_iload_n F dX4_rope_33 2 rfl rfl ?_
      refine g_callV F dX4_rope_34 mi_X4_refuse q2407 q2409 qs37 gc_X4 mO_o (ct_X4_refuse hN) rfl rfl (nle rfl) (nle rfl) (nle rfl) (g_pur ?_) g_purX
      have hr : xRope (av 0) nb (nI i) = (.inr (2, some (11, nI i)) : xR) := by grind [mu_e, xRope, xRope1, nI_clamp]
      exact g_iret F dX4_rope_37 (⟨by rw [hr]; rfl, by rw [hr]; rfl⟩)
  · refine g_aload_n F dX4_rope_12 0 rfl rfl ?_
    refine g_iconst (v := 1) F dX4_rope_13 rfl ?_
    refine g_callV F dX4_rope_14 mi_X4_fails q2349 q2351 qs26 gc_X4 mO_o (ct_X4_fails hN) rfl rfl (nle rfl) (nle rfl) (nle rfl) (g_pur ?_) g_purX
    have hr : xRope (av 0) nb x = (.inr (1, none) : xR) := by grind [mu_e, xRope, xRope1, nI_clamp]
    exact g_iret F dX4_rope_17 (⟨by rw [hr]; rfl, by rw [hr]; rfl⟩)
set_option maxHeartbeats 4000000 in
set_option maxRecDepth 100000 in
theorem ct_X4_curtain {K : gK} {h : AH} {o : Nat} {L : Nat → Nat} {iv : Nat → Int32} {av : Nat → Nat → Int32} (hN : mN K o L) {x : Int32} {nb nc nh nq : Nat} (hC : mC (av 0) nb nc nh nq) (hL : mL (av 0) nb nc nq) (hz : mZ av) {np : Nat} (h6 : iv 6 = nI np) (hnp : np ≤ 8) : gCt K yX4_curtain w_X4_curtain 2 61 0 0 (mO K h o L iv av) [.ref o, .int x] (pR (.int (xRet (xCurtain (av 0) nc x))) (mO K h o L (xSIv iv (xCurtain (av 0) nc x) np) (xSAv av (xCurtain (av 0) nc x) np))) := by
  refine g_meth pf_X4_curtain (nle rfl) (fun p e s m args below meth c F hnm htb => ?_)
  have F : gFix K p s m args meth c cX4_curtain 3 RX4 (some .int) := F
  refine g_eql (lv' := [(0, .ref o), (1, .int x)]) rfl ?_
  obtain ⟨h1, hb, h2, hc, h3, hh, h4, hq⟩ := hC
  refine g_aload_n F dX4_curtain_0 0 rfl rfl ?_
  refine gf_X4_9_X4 (v := .ref (L 0)) F dX4_curtain_1 mO_o rfl ?_
  refine g_iconst (v := 2) F dX4_curtain_4 rfl ?_
  refine g_ialdN (i := 2) F (mO_0 hN) (rfl : (2 : Int32) = nI 2) (show 2 = 2 by omega) (by omega) (by decide) dX4_curtain_5 ?_
  refine g_eqs (st' := [.int (nI nc)]) (congrArg (fun z => [Value.int z]) h2) ?_
  refine g_istore_n (lv' := [(2, .int (nI nc)), (0, .ref o), (1, .int x)]) F dX4_curtain_6 rfl (by decide) rfl ?_
  refine g_aload_n F dX4_curtain_7 1 rfl rfl ?_
  refine g_callV F dX4_curtain_8 mi_X4_keep q2341 q2343 qs25 gc_X4 mO_o (ct_X4_keepZ hN hz) rfl rfl (nle rfl) (nle rfl) (nle rfl) (g_purv ?_) g_purvX
  refine g_iload_n F dX4_curtain_11 2 rfl rfl ?_
  refine g_iconst (v := 5) F dX4_curtain_12 rfl ?_
  refine g_bipush (v := 90) F dX4_curtain_13 rfl ?_
  refine g_callS F dX4_curtain_15 mi_X4_in q2346 q2347 ct_X4_in rfl rfl (nle rfl) (nle rfl) (nle rfl) (g_pur ?_) g_purX
  refine g_if_ne (tgt := 27) F dX4_curtain_18 (by decide) (fun c1 => ?_) (fun c1 => ?_)
  · refine g_iload_n F dX4_curtain_27 0 rfl rfl ?_
    refine g_bipush (v := 12) F dX4_curtain_28 rfl ?_
    refine g_icmp_ne (tgt := 39) F dX4_curtain_30 (by decide) (fun c2 => ?_) (fun c2 => ?_)
    · have hne : nc ≠ 12 := fun z => c2 (by rw [z]; rfl)
      refine g_aload_n F dX4_curtain_39 1 rfl rfl ?_
      refine gf_X4_9_X4 (v := .ref (L 0)) F dX4_curtain_40 mO_o rfl ?_
      refine g_bipush (v := 43) F dX4_curtain_43 rfl ?_
      refine g_iconst (v := 2) F dX4_curtain_45 rfl ?_
      refine g_iload_n F dX4_curtain_46 0 rfl rfl ?_
      refine g_imul F dX4_curtain_47 ?_
      refine g_iadd F dX4_curtain_48 ?_
      refine g_iload_n F dX4_curtain_49 2 rfl rfl ?_
      refine g_miast hN 0 (n := 131) (i := 43 + 2 * nc) F (by decide) (by decide) rfl (mO_0 hN) (nadd (rfl : (43 : Int32) = nI 43) (nmul (rfl : (2 : Int32) = nI 2) rfl)) (show (43 + (2 * nc)) = 43 + 2 * nc by omega) (by omega) (by decide) dX4_curtain_50 ?_
      refine g_aload_n F dX4_curtain_51 1 rfl rfl ?_
      refine gf_X4_9_X4 (v := .ref (L 0)) F dX4_curtain_52 mO_o rfl ?_
      refine g_bipush (v := 43) F dX4_curtain_55 rfl ?_
      refine g_iconst (v := 2) F dX4_curtain_57 rfl ?_
      refine g_iload_n F dX4_curtain_58 0 rfl rfl ?_
      refine g_imul F dX4_curtain_59 ?_
      refine g_iadd F dX4_curtain_60 ?_
      refine g_iconst (v := 1) F dX4_curtain_61 rfl ?_
      refine g_iadd F dX4_curtain_62 ?_
      refine g_iconst (v := (-1)) F dX4_curtain_63 rfl ?_
      refine g_miast hN 0 (n := 131) (i := 44 + 2 * nc) F (by decide) (by decide) rfl (mO_0 hN) (nadd (nadd (rfl : (43 : Int32) = nI 43) (nmul (rfl : (2 : Int32) = nI 2) rfl)) (rfl : (1 : Int32) = nI 1)) (show ((43 + (2 * nc)) + 1) = 44 + 2 * nc by omega) (by omega) (by decide) dX4_curtain_64 ?_
      refine g_eqh (h' := (mO K h o L (upd iv 7 0) (mu (mu av 1 (av 0)) 0 (upd (upd (av 0) (43 + 2 * nc) x) (44 + 2 * nc) (-1))))) (by simp only [mu_s, mu_mu]; try rfl) ?_
      refine g_aload_n F dX4_curtain_65 1 rfl rfl ?_
      refine gf_X4_9_X4 (v := .ref (L 0)) F dX4_curtain_66 mO_o rfl ?_
      refine g_iconst (v := 2) F dX4_curtain_69 rfl ?_
      refine g_dup2 F dX4_curtain_70 rfl rfl ?_
      refine g_ialdN (i := 2) F (mO_0 hN) (rfl : (2 : Int32) = nI 2) (show 2 = 2 by omega) (by omega) (by decide) dX4_curtain_71 ?_
      refine g_eqs (st' := [.int (nI nc), .int 2, .ref (L 0)]) (by simp (disch := omega) only [pk_un, mu_s, h2]) ?_
      refine g_iconst (v := 1) F dX4_curtain_72 rfl ?_
      refine g_iadd F dX4_curtain_73 ?_
      refine g_miast hN 0 (n := 131) (i := 2) F (by decide) (by decide) rfl (mO_0 hN) (rfl : (2 : Int32) = nI 2) (show 2 = 2 by omega) (by omega) (by decide) dX4_curtain_74 ?_
      refine g_eqh (h' := (mO K h o L (upd iv 7 0) (mu (mu av 1 (av 0)) 0 (upd (upd (upd (av 0) (43 + 2 * nc) x) (44 + 2 * nc) (-1)) 2 ((nI nc) + 1))))) (by simp only [mu_s, mu_mu]; try rfl) ?_
      refine g_aload_n F dX4_curtain_75 1 rfl rfl ?_
      refine g_iload_n F dX4_curtain_76 0 rfl rfl ?_
      refine g_callV F dX4_curtain_77 mi_X4_ends q2353 q2355 qs27 gc_X4 mO_o (ct_X4_endsO hN (np := np) pk_us ((pk_un (by decide)).trans h6) hnp) rfl rfl (nle rfl) (nle rfl) (nle rfl) (g_pur ?_) g_purX
      have hr : xCurtain (av 0) nc x = (.inl (nI nc, upd (upd (upd (av 0) (43 + 2 * nc) x) (44 + 2 * nc) (-1)) 2 ((nI nc) + 1)) : xR) := by (simp only [xCurtain]; grind [nI_1, mu_e])
      exact g_iret F dX4_curtain_80 (⟨by rw [hr]; rfl, by rw [hr]; rfl⟩)
    · have heq : nc = 12 := (nI_eq (by omega) (by decide)).mp (show nI nc = nI 12 from c2)
      refine g_aload_n F dX4_curtain_33 1 rfl rfl ?_
      refine g_iconst (v := 2) F dX4_curtain_34 rfl ?_
      refine g_callV F dX4_curtain_35 mi_X4_fails q2349 q2351 qs26 gc_X4 mO_o (ct_X4_fails hN) rfl rfl (nle rfl) (nle rfl) (nle rfl) (g_pur ?_) g_purX
      have hr : xCurtain (av 0) nc x = (.inr (2, none) : xR) := by (simp only [xCurtain]; grind [nI_1, mu_e])
      exact g_iret F dX4_curtain_38 (⟨by rw [hr]; rfl, by rw [hr]; rfl⟩)
  · refine g_aload_n F dX4_curtain_21 1 rfl rfl ?_
    refine g_iconst (v := 1) F dX4_curtain_22 rfl ?_
    refine g_callV F dX4_curtain_23 mi_X4_fails q2349 q2351 qs26 gc_X4 mO_o (ct_X4_fails hN) rfl rfl (nle rfl) (nle rfl) (nle rfl) (g_pur ?_) g_purX
    have hr : xCurtain (av 0) nc x = (.inr (1, none) : xR) := by (simp only [xCurtain]; grind [nI_1, mu_e])
    exact g_iret F dX4_curtain_26 (⟨by rw [hr]; rfl, by rw [hr]; rfl⟩)
set_option maxHeartbeats 4000000 in
set_option maxRecDepth 100000 in
theorem ct_X4_hand {K : gK} {h : AH} {o : Nat} {L : Nat → Nat} {iv : Nat → Int32} {av : Nat → Nat → Int32} (hN : mN K o L) {x y : Int32} {nb nc nh nq : Nat} (hC : mC (av 0) nb nc nh nq) (hL : mL (av 0) nb nc nq) (hz : mZ av) {np : Nat} (h6 : iv 6 = nI np) (hnp : np ≤ 8) : gCt K yX4_hand w_X4_hand 2 61 0 0 (mO K h o L iv av) [.ref o, .int x, .int y] (pR (.int (xRet (xHand (av 0) nh x y))) (mO K h o L (xSIv iv (xHand (av 0) nh x y) np) (xSAv av (xHand (av 0) nh x y) np))) := by
  refine g_meth pf_X4_hand (nle rfl) (fun p e s m args below meth c F hnm htb => ?_)
  have F : gFix K p s m args meth c cX4_hand 4 RX4 (some .int) := F
  refine g_eql (lv' := [(0, .ref o), (1, .int x), (2, .int y)]) rfl ?_
  obtain ⟨h1, hb, h2, hc, h3, hh, h4, hq⟩ := hC
  refine g_aload_n F dX4_hand_0 0 rfl rfl ?_
  refine gf_X4_9_X4 (v := .ref (L 0)) F dX4_hand_1 mO_o rfl ?_
  refine g_iconst (v := 3) F dX4_hand_4 rfl ?_
  refine g_ialdN (i := 3) F (mO_0 hN) (rfl : (3 : Int32) = nI 3) (show 3 = 3 by omega) (by omega) (by decide) dX4_hand_5 ?_
  refine g_eqs (st' := [.int (nI nh)]) (congrArg (fun z => [Value.int z]) h3) ?_
  refine g_istore_n (lv' := [(3, .int (nI nh)), (0, .ref o), (1, .int x), (2, .int y)]) F dX4_hand_6 rfl (by decide) rfl ?_
  refine g_aload_n F dX4_hand_7 1 rfl rfl ?_
  refine g_callV F dX4_hand_8 mi_X4_keep q2341 q2343 qs25 gc_X4 mO_o (ct_X4_keepZ hN hz) rfl rfl (nle rfl) (nle rfl) (nle rfl) (g_purv ?_) g_purvX
  refine g_iload_n F dX4_hand_11 2 rfl rfl ?_
  refine g_iconst (v := 0) F dX4_hand_12 rfl ?_
  refine g_iconst (v := 2) F dX4_hand_13 rfl ?_
  refine g_callS F dX4_hand_14 mi_X4_in q2346 q2347 ct_X4_in rfl rfl (nle rfl) (nle rfl) (nle rfl) (g_pur ?_) g_purX
  refine g_if_eq (tgt := 30) F dX4_hand_17 (by decide) (fun c1 => ?_) (fun c1 => ?_)
  · refine g_aload_n F dX4_hand_30 1 rfl rfl ?_
    refine g_iconst (v := 1) F dX4_hand_31 rfl ?_
    refine g_callV F dX4_hand_32 mi_X4_fails q2349 q2351 qs26 gc_X4 mO_o (ct_X4_fails hN) rfl rfl (nle rfl) (nle rfl) (nle rfl) (g_pur ?_) g_purX
    have hr : xHand (av 0) nh x y = (.inr (1, none) : xR) := by (simp only [xHand]; grind [nI_1, mu_e])
    exact g_iret F dX4_hand_35 (⟨by rw [hr]; rfl, by rw [hr]; rfl⟩)
  · refine g_iload_n F dX4_hand_20 3 rfl rfl ?_
    refine g_iconst (v := 1) F dX4_hand_21 rfl ?_
    refine g_bipush (v := 30) F dX4_hand_22 rfl ?_
    refine g_callS F dX4_hand_24 mi_X4_in q2346 q2347 ct_X4_in rfl rfl (nle rfl) (nle rfl) (nle rfl) (g_pur ?_) g_purX
    refine g_if_ne (tgt := 36) F dX4_hand_27 (by decide) (fun c2 => ?_) (fun c2 => ?_)
    · refine g_iload_n F dX4_hand_36 0 rfl rfl ?_
      refine g_bipush (v := 6) F dX4_hand_37 rfl ?_
      refine g_icmp_ne (tgt := 48) F dX4_hand_39 (by decide) (fun c3 => ?_) (fun c3 => ?_)
      · have hne : nh ≠ 6 := fun z => c3 (by rw [z]; rfl)
        refine g_aload_n F dX4_hand_48 1 rfl rfl ?_
        refine gf_X4_9_X4 (v := .ref (L 0)) F dX4_hand_49 mO_o rfl ?_
        refine g_bipush (v := 67) F dX4_hand_52 rfl ?_
        refine g_iconst (v := 2) F dX4_hand_54 rfl ?_
        refine g_iload_n F dX4_hand_55 0 rfl rfl ?_
        refine g_imul F dX4_hand_56 ?_
        refine g_iadd F dX4_hand_57 ?_
        refine g_iload_n F dX4_hand_58 2 rfl rfl ?_
        refine g_miast hN 0 (n := 131) (i := 67 + 2 * nh) F (by decide) (by decide) rfl (mO_0 hN) (nadd (rfl : (67 : Int32) = nI 67) (nmul (rfl : (2 : Int32) = nI 2) rfl)) (show (67 + (2 * nh)) = 67 + 2 * nh by omega) (by omega) (by decide) dX4_hand_59 ?_
        refine g_aload_n F dX4_hand_60 1 rfl rfl ?_
        refine gf_X4_9_X4 (v := .ref (L 0)) F dX4_hand_61 mO_o rfl ?_
        refine g_bipush (v := 67) F dX4_hand_64 rfl ?_
        refine g_iconst (v := 2) F dX4_hand_66 rfl ?_
        refine g_iload_n F dX4_hand_67 0 rfl rfl ?_
        refine g_imul F dX4_hand_68 ?_
        refine g_iadd F dX4_hand_69 ?_
        refine g_iconst (v := 1) F dX4_hand_70 rfl ?_
        refine g_iadd F dX4_hand_71 ?_
        refine g_iload_n F dX4_hand_72 3 rfl rfl ?_
        refine g_miast hN 0 (n := 131) (i := 68 + 2 * nh) F (by decide) (by decide) rfl (mO_0 hN) (nadd (nadd (rfl : (67 : Int32) = nI 67) (nmul (rfl : (2 : Int32) = nI 2) rfl)) (rfl : (1 : Int32) = nI 1)) (show ((67 + (2 * nh)) + 1) = 68 + 2 * nh by omega) (by omega) (by decide) dX4_hand_73 ?_
        refine g_eqh (h' := (mO K h o L (upd iv 7 0) (mu (mu av 1 (av 0)) 0 (upd (upd (av 0) (67 + 2 * nh) x) (68 + 2 * nh) y)))) (by simp only [mu_s, mu_mu]; try rfl) ?_
        refine g_aload_n F dX4_hand_74 1 rfl rfl ?_
        refine gf_X4_9_X4 (v := .ref (L 0)) F dX4_hand_75 mO_o rfl ?_
        refine g_iconst (v := 3) F dX4_hand_78 rfl ?_
        refine g_dup2 F dX4_hand_79 rfl rfl ?_
        refine g_ialdN (i := 3) F (mO_0 hN) (rfl : (3 : Int32) = nI 3) (show 3 = 3 by omega) (by omega) (by decide) dX4_hand_80 ?_
        refine g_eqs (st' := [.int (nI nh), .int 3, .ref (L 0)]) (by simp (disch := omega) only [pk_un, mu_s, h3]) ?_
        refine g_iconst (v := 1) F dX4_hand_81 rfl ?_
        refine g_iadd F dX4_hand_82 ?_
        refine g_miast hN 0 (n := 131) (i := 3) F (by decide) (by decide) rfl (mO_0 hN) (rfl : (3 : Int32) = nI 3) (show 3 = 3 by omega) (by omega) (by decide) dX4_hand_83 ?_
        refine g_eqh (h' := (mO K h o L (upd iv 7 0) (mu (mu av 1 (av 0)) 0 (upd (upd (upd (av 0) (67 + 2 * nh) x) (68 + 2 * nh) y) 3 ((nI nh) + 1))))) (by simp only [mu_s, mu_mu]; try rfl) ?_
        refine g_aload_n F dX4_hand_84 1 rfl rfl ?_
        refine g_iload_n F dX4_hand_85 0 rfl rfl ?_
        refine g_callV F dX4_hand_86 mi_X4_ends q2353 q2355 qs27 gc_X4 mO_o (ct_X4_endsO hN (np := np) pk_us ((pk_un (by decide)).trans h6) hnp) rfl rfl (nle rfl) (nle rfl) (nle rfl) (g_pur ?_) g_purX
        have hr : xHand (av 0) nh x y = (.inl (nI nh, upd (upd (upd (av 0) (67 + 2 * nh) x) (68 + 2 * nh) y) 3 ((nI nh) + 1)) : xR) := by (simp only [xHand]; grind [nI_1, mu_e])
        exact g_iret F dX4_hand_89 (⟨by rw [hr]; rfl, by rw [hr]; rfl⟩)
      · have heq : nh = 6 := (nI_eq (by omega) (by decide)).mp (show nI nh = nI 6 from c3)
        refine g_aload_n F dX4_hand_42 1 rfl rfl ?_
        refine g_iconst (v := 2) F dX4_hand_43 rfl ?_
        refine g_callV F dX4_hand_44 mi_X4_fails q2349 q2351 qs26 gc_X4 mO_o (ct_X4_fails hN) rfl rfl (nle rfl) (nle rfl) (nle rfl) (g_pur ?_) g_purX
        have hr : xHand (av 0) nh x y = (.inr (2, none) : xR) := by (simp only [xHand]; grind [nI_1, mu_e])
        exact g_iret F dX4_hand_47 (⟨by rw [hr]; rfl, by rw [hr]; rfl⟩)
    · refine g_aload_n F dX4_hand_30 1 rfl rfl ?_
      refine g_iconst (v := 1) F dX4_hand_31 rfl ?_
      refine g_callV F dX4_hand_32 mi_X4_fails q2349 q2351 qs26 gc_X4 mO_o (ct_X4_fails hN) rfl rfl (nle rfl) (nle rfl) (nle rfl) (g_pur ?_) g_purX
      have hr : xHand (av 0) nh x y = (.inr (1, none) : xR) := by (simp only [xHand]; grind [nI_1, mu_e])
      exact g_iret F dX4_hand_35 (⟨by rw [hr]; rfl, by rw [hr]; rfl⟩)
set_option maxHeartbeats 4000000 in
set_option maxRecDepth 100000 in
theorem ct_X4_move {K : gK} {h : AH} {o : Nat} {L : Nat → Nat} {iv : Nat → Int32} {av : Nat → Nat → Int32} (hN : mN K o L) {x y : Int32} {nb nc nh nq : Nat} (hC : mC (av 0) nb nc nh nq) (hL : mL (av 0) nb nc nq) (hz : mZ av) {np : Nat} (h6 : iv 6 = nI np) (hnp : np ≤ 8) : gCt K yX4_move w_X4_move 2 61 0 0 (mO K h o L iv av) [.ref o, .int x, .int y] (pR (.int (xRet (xMove (av 0) nh x y))) (mO K h o L (xSIv iv (xMove (av 0) nh x y) np) (xSAv av (xMove (av 0) nh x y) np))) := by
  refine g_meth pf_X4_move (nle rfl) (fun p e s m args below meth c F hnm htb => ?_)
  have F : gFix K p s m args meth c cX4_move 3 RX4 (some .int) := F
  refine g_eql (lv' := [(0, .ref o), (1, .int x), (2, .int y)]) rfl ?_
  obtain ⟨h1, hb, h2, hc, h3, hh, h4, hq⟩ := hC
  refine g_aload_n F dX4_move_0 0 rfl rfl ?_
  refine g_callV F dX4_move_1 mi_X4_keep q2341 q2343 qs25 gc_X4 mO_o (ct_X4_keepZ hN hz) rfl rfl (nle rfl) (nle rfl) (nle rfl) (g_purv ?_) g_purvX
  refine g_iload_n F dX4_move_4 1 rfl rfl ?_
  refine g_iconst (v := 0) F dX4_move_5 rfl ?_
  refine g_aload_n F dX4_move_6 0 rfl rfl ?_
  refine gf_X4_9_X4 (v := .ref (L 0)) F dX4_move_7 mO_o rfl ?_
  refine g_iconst (v := 3) F dX4_move_10 rfl ?_
  refine g_ialdN (i := 3) F (mO_0 hN) (rfl : (3 : Int32) = nI 3) (show 3 = 3 by omega) (by omega) (by decide) dX4_move_11 ?_
  refine g_eqs (st' := [.int (nI nh), .int 0, .int x]) (congrArg (fun z => [Value.int z, .int 0, .int x]) h3) ?_
  refine g_iconst (v := 1) F dX4_move_12 rfl ?_
  refine g_isub F dX4_move_13 ?_
  refine g_callS F dX4_move_14 mi_X4_in q2346 q2347 ct_X4_in rfl rfl (nle rfl) (nle rfl) (nle rfl) (g_pur ?_) g_purX
  refine g_if_ne (tgt := 26) F dX4_move_17 (by decide) (fun c1 => ?_) (fun c1 => ?_)
  · obtain ⟨i, hi, rfl⟩ := xAt_i (by omega) c1
    refine g_iload_n F dX4_move_26 2 rfl rfl ?_
    refine g_iconst (v := 0) F dX4_move_27 rfl ?_
    refine g_iconst (v := 2) F dX4_move_28 rfl ?_
    refine g_callS F dX4_move_29 mi_X4_in q2346 q2347 ct_X4_in rfl rfl (nle rfl) (nle rfl) (nle rfl) (g_pur ?_) g_purX
    refine g_if_ne (tgt := 41) F dX4_move_32 (by decide) (fun c2 => ?_) (fun c2 => ?_)
    · refine g_aload_n F dX4_move_41 0 rfl rfl ?_
      refine gf_X4_9_X4 (v := .ref (L 0)) F dX4_move_42 mO_o rfl ?_
      refine g_bipush (v := 67) F dX4_move_45 rfl ?_
      refine g_iconst (v := 2) F dX4_move_47 rfl ?_
      refine g_iload_n F dX4_move_48 1 rfl rfl ?_
      refine g_imul F dX4_move_49 ?_
      refine g_iadd F dX4_move_50 ?_
      refine g_iload_n F dX4_move_51 2 rfl rfl ?_
      refine g_miast hN 0 (n := 131) (i := 67 + 2 * i) F (by decide) (by decide) rfl (mO_0 hN) (nadd (rfl : (67 : Int32) = nI 67) (nmul (rfl : (2 : Int32) = nI 2) rfl)) (show (67 + (2 * i)) = 67 + 2 * i by omega) (by omega) (by decide) dX4_move_52 ?_
      refine g_aload_n F dX4_move_53 0 rfl rfl ?_
      refine g_aload_n F dX4_move_54 0 rfl rfl ?_
      refine g_iload_n F dX4_move_55 2 rfl rfl ?_
      refine g_callV F dX4_move_56 mi_X4_strengthOf q2492 q2494 qs46 gc_X4 mO_o (ct_X4_strengthOf (av := mu (mu av 1 (av 0)) 0 (upd (av 0) (67 + 2 * i) y)) hN (by simp (disch := omega) only [mu_s, pk_un]; exact h3) hh) rfl rfl (nle rfl) (nle rfl) (nle rfl) (g_pur ?_) g_purX
      refine g_callV F dX4_move_59 mi_X4_ends q2353 q2355 qs27 gc_X4 mO_o (ct_X4_endsO hN (np := np) pk_us ((pk_un (by decide)).trans h6) hnp) rfl rfl (nle rfl) (nle rfl) (nle rfl) (g_pur ?_) g_purX
      have hr : xMove (av 0) nh (nI i) y = (.inl (mStr (upd (av 0) (67 + 2 * i) y) nh y, upd (av 0) (67 + 2 * i) y) : xR) := by grind [mu_e, xMove, nI_clamp]
      exact g_iret F dX4_move_62 (⟨by rw [hr]; rfl, by rw [hr]; rfl⟩)
    · refine g_aload_n F dX4_move_35 0 rfl rfl ?_
      refine g_iconst (v := 2) F dX4_move_36 rfl ?_
      refine g_callV F dX4_move_37 mi_X4_fails q2349 q2351 qs26 gc_X4 mO_o (ct_X4_fails hN) rfl rfl (nle rfl) (nle rfl) (nle rfl) (g_pur ?_) g_purX
      have hr : xMove (av 0) nh (nI i) y = (.inr (2, none) : xR) := by grind [mu_e, xMove, nI_clamp]
      exact g_iret F dX4_move_40 (⟨by rw [hr]; rfl, by rw [hr]; rfl⟩)
  · refine g_aload_n F dX4_move_20 0 rfl rfl ?_
    refine g_iconst (v := 1) F dX4_move_21 rfl ?_
    refine g_callV F dX4_move_22 mi_X4_fails q2349 q2351 qs26 gc_X4 mO_o (ct_X4_fails hN) rfl rfl (nle rfl) (nle rfl) (nle rfl) (g_pur ?_) g_purX
    have hr : xMove (av 0) nh x y = (.inr (1, none) : xR) := by grind [mu_e, xMove, nI_clamp]
    exact g_iret F dX4_move_25 (⟨by rw [hr]; rfl, by rw [hr]; rfl⟩)
set_option maxHeartbeats 4000000 in
set_option maxRecDepth 100000 in
theorem ct_X4_strength {K : gK} {h : AH} {o : Nat} {L : Nat → Nat} {iv : Nat → Int32} {av : Nat → Nat → Int32} (hN : mN K o L) {x : Int32} {nb nc nh nq : Nat} (hC : mC (av 0) nb nc nh nq) (hL : mL (av 0) nb nc nq) : gCt K yX4_strength w_X4_strength 1 23 0 0 (mO K h o L iv av) [.ref o, .int x] (pR (.int (qV (qStr (av 0) nh x))) (mO K h o L (upd iv 7 (qP (qStr (av 0) nh x))) av)) := by
  refine g_meth pf_X4_strength (nle rfl) (fun p e s m args below meth c F hnm htb => ?_)
  have F : gFix K p s m args meth c cX4_strength 2 RX4 (some .int) := F
  refine g_eql (lv' := [(0, .ref o), (1, .int x)]) rfl ?_
  obtain ⟨h1, hb, h2, hc, h3, hh, h4, hq⟩ := hC
  refine g_aload_n F dX4_strength_0 0 rfl rfl ?_
  refine g_iload_n F dX4_strength_1 1 rfl rfl ?_
  refine g_iconst (v := 0) F dX4_strength_2 rfl ?_
  refine g_iconst (v := 2) F dX4_strength_3 rfl ?_
  refine g_callS F dX4_strength_4 mi_X4_in q2346 q2347 ct_X4_in rfl rfl (nle rfl) (nle rfl) (nle rfl) (g_pur ?_) g_purX
  refine g_if_eq (tgt := 14) F dX4_strength_7 (by decide) (fun c1 => ?_) (fun c1 => ?_)
  · refine g_iconst (v := 1) F dX4_strength_14 rfl ?_
    refine gp_X4_69_X4 F dX4_strength_15 mO_o hN.1 (nle rfl) rfl (fun h_e2 e2 => ?_)
    refine g_mput (iv2 := upd iv 7 1) e2 rfl ?_
    refine g_aload_n F dX4_strength_18 0 rfl rfl ?_
    refine gf_X4_69_X4 (v := .int 1) F dX4_strength_19 mO_o rfl ?_
    refine g_if_le (tgt := 29) F dX4_strength_22 (by decide) (fun c3 => absurd c3 (by decide)) (fun c3 => ?_)
    refine g_iconst (v := 0) F dX4_strength_25 rfl ?_
    refine g_goto (tgt := 34) F dX4_strength_26 (by decide) ?_
    have hr : qStr (av 0) nh x = (.inr 1 : xQ) := by grind [qIf, qStr, nI_clamp]
    exact g_iret F dX4_strength_34 (⟨by rw [hr]; rfl, by rw [hr]; rfl⟩)
  · refine g_iconst (v := 0) F dX4_strength_10 rfl ?_
    refine g_goto (tgt := 15) F dX4_strength_11 (by decide) ?_
    refine gp_X4_69_X4 F dX4_strength_15 mO_o hN.1 (nle rfl) rfl (fun h_e4 e4 => ?_)
    refine g_mput (iv2 := upd iv 7 0) e4 rfl ?_
    refine g_aload_n F dX4_strength_18 0 rfl rfl ?_
    refine gf_X4_69_X4 (v := .int 0) F dX4_strength_19 mO_o rfl ?_
    refine g_if_le (tgt := 29) F dX4_strength_22 (by decide) (fun c5 => ?_) (fun c5 => absurd c5 (by decide))
    refine g_aload_n F dX4_strength_29 0 rfl rfl ?_
    refine g_iload_n F dX4_strength_30 1 rfl rfl ?_
    refine g_callV F dX4_strength_31 mi_X4_strengthOf q2492 q2494 qs46 gc_X4 mO_o (ct_X4_strengthOf hN h3 hh) rfl rfl (nle rfl) (nle rfl) (nle rfl) (g_pur ?_) g_purX
    have hr : qStr (av 0) nh x = (.inl (mStr (av 0) nh x) : xQ) := by grind [qIf, qStr, nI_clamp]
    exact g_iret F dX4_strength_34 (⟨by rw [hr]; rfl, by rw [hr]; rfl⟩)
set_option maxHeartbeats 4000000 in
set_option maxRecDepth 100000 in
theorem ct_X4_barOfCurtain {K : gK} {h : AH} {o : Nat} {L : Nat → Nat} {iv : Nat → Int32} {av : Nat → Nat → Int32} (hN : mN K o L) {x : Int32} {nb nc nh nq : Nat} (hC : mC (av 0) nb nc nh nq) (hL : mL (av 0) nb nc nq) : gCt K yX4_barOfCurtain w_X4_barOfCurtain 2 43 0 0 (mO K h o L iv av) [.ref o, .int x] (pR (.int (qV (qBarOfC (av 0) nc x))) (mO K h o L (upd iv 7 (qP (qBarOfC (av 0) nc x))) av)) := by
  refine g_meth pf_X4_barOfCurtain (nle rfl) (fun p e s m args below meth c F hnm htb => ?_)
  have F : gFix K p s m args meth c cX4_barOfCurtain 2 RX4 (some .int) := F
  refine g_eql (lv' := [(0, .ref o), (1, .int x)]) rfl ?_
  obtain ⟨h1, hb, h2, hc, h3, hh, h4, hq⟩ := hC
  refine g_aload_n F dX4_barOfCurtain_0 0 rfl rfl ?_
  refine g_aload_n F dX4_barOfCurtain_1 0 rfl rfl ?_
  refine g_iload_n F dX4_barOfCurtain_2 1 rfl rfl ?_
  refine g_callV F dX4_barOfCurtain_3 mi_X4_isCurtain q2431 q2433 qs40 gc_X4 mO_o (ct_X4_isCurtain hN h2) rfl rfl (nle rfl) (nle rfl) (nle rfl) (g_pur ?_) g_purX
  refine g_if_eq (tgt := 13) F dX4_barOfCurtain_6 (by decide) (fun c1 => ?_) (fun c1 => ?_)
  · refine g_iconst (v := 1) F dX4_barOfCurtain_13 rfl ?_
    refine gp_X4_69_X4 F dX4_barOfCurtain_14 mO_o hN.1 (nle rfl) rfl (fun h_e2 e2 => ?_)
    refine g_mput (iv2 := upd iv 7 1) e2 rfl ?_
    refine g_aload_n F dX4_barOfCurtain_17 0 rfl rfl ?_
    refine gf_X4_69_X4 (v := .int 1) F dX4_barOfCurtain_18 mO_o rfl ?_
    refine g_if_le (tgt := 28) F dX4_barOfCurtain_21 (by decide) (fun c3 => absurd c3 (by decide)) (fun c3 => ?_)
    refine g_iconst (v := 0) F dX4_barOfCurtain_24 rfl ?_
    refine g_goto (tgt := 33) F dX4_barOfCurtain_25 (by decide) ?_
    have hr : qBarOfC (av 0) nc x = (.inr 1 : xQ) := by grind [qIf, qBarOfC, nI_clamp]
    exact g_iret F dX4_barOfCurtain_33 (⟨by rw [hr]; rfl, by rw [hr]; rfl⟩)
  · obtain ⟨i, hi, rfl⟩ := xAt_i (by omega) c1
    refine g_iconst (v := 0) F dX4_barOfCurtain_9 rfl ?_
    refine g_goto (tgt := 14) F dX4_barOfCurtain_10 (by decide) ?_
    refine gp_X4_69_X4 F dX4_barOfCurtain_14 mO_o hN.1 (nle rfl) rfl (fun h_e4 e4 => ?_)
    refine g_mput (iv2 := upd iv 7 0) e4 rfl ?_
    refine g_aload_n F dX4_barOfCurtain_17 0 rfl rfl ?_
    refine gf_X4_69_X4 (v := .int 0) F dX4_barOfCurtain_18 mO_o rfl ?_
    refine g_if_le (tgt := 28) F dX4_barOfCurtain_21 (by decide) (fun c5 => ?_) (fun c5 => absurd c5 (by decide))
    refine g_aload_n F dX4_barOfCurtain_28 0 rfl rfl ?_
    refine g_iload_n F dX4_barOfCurtain_29 1 rfl rfl ?_
    refine g_callV F dX4_barOfCurtain_30 mi_X4_barOf1 q2381 q2383 qs32 gc_X4 mO_o (ct_X4_barOf1 hN (i := 44 + 2 * i) (nto (nadd (nadd (rfl : (43 : Int32) = nI 43) (nmul (rfl : (2 : Int32) = nI 2) rfl)) (rfl : (1 : Int32) = nI 1)) (show ((43 + (2 * i)) + 1) = 44 + 2 * i by omega)) (by omega)) rfl rfl (nle rfl) (nle rfl) (nle rfl) (g_pur ?_) g_purX
    have hr : qBarOfC (av 0) nc (nI i) = (.inl (av 0 (44 + 2 * i)) : xQ) := by grind [qIf, qBarOfC, nI_clamp]
    exact g_iret F dX4_barOfCurtain_33 (⟨by rw [hr]; rfl, by rw [hr]; rfl⟩)
set_option maxHeartbeats 4000000 in
set_option maxRecDepth 100000 in
theorem ct_X4_noise {K : gK} {h : AH} {o : Nat} {L : Nat → Nat} {iv : Nat → Int32} {av : Nat → Nat → Int32} (hN : mN K o L) {x y z : Int32} {nb nc nh nq : Nat} (hC : mC (av 0) nb nc nh nq) (hL : mL (av 0) nb nc nq) : gCt K yX4_noise w_X4_noise 2 44 0 0 (mO K h o L iv av) [.ref o, .int x, .int y, .int z] (pR (.int (qV (qNoise (av 0) nb x y))) (mO K h o L (upd iv 7 (qP (qNoise (av 0) nb x y))) av)) := by
  refine g_meth pf_X4_noise (nle rfl) (fun p e s m args below meth c F hnm htb => ?_)
  have F : gFix K p s m args meth c cX4_noise 4 RX4 (some .int) := F
  refine g_eql (lv' := [(0, .ref o), (1, .int x), (2, .int y), (3, .int z)]) rfl ?_
  obtain ⟨h1, hb, h2, hc, h3, hh, h4, hq⟩ := hC
  refine g_aload_n F dX4_noise_0 0 rfl rfl ?_
  refine g_aload_n F dX4_noise_1 0 rfl rfl ?_
  refine g_iload_n F dX4_noise_2 1 rfl rfl ?_
  refine g_callV F dX4_noise_3 mi_X4_isBar q2369 q2371 qs29 gc_X4 mO_o (ct_X4_isBar hN h1) rfl rfl (nle rfl) (nle rfl) (nle rfl) (g_pur ?_) g_purX
  refine g_if_ne (tgt := 13) F dX4_noise_6 (by decide) (fun c1 => ?_) (fun c1 => ?_)
  · obtain ⟨i, hi, rfl⟩ := xAt_i (by omega) c1
    refine g_iload_n F dX4_noise_13 2 rfl rfl ?_
    refine g_iconst (v := 0) F dX4_noise_14 rfl ?_
    refine g_bipush (v := 20) F dX4_noise_15 rfl ?_
    refine g_callS F dX4_noise_17 mi_X4_in q2346 q2347 ct_X4_in rfl rfl (nle rfl) (nle rfl) (nle rfl) (g_pur ?_) g_purX
    refine g_if_ne (tgt := 27) F dX4_noise_20 (by decide) (fun c2 => ?_) (fun c2 => ?_)
    · refine g_iconst (v := 0) F dX4_noise_27 rfl ?_
      refine gp_X4_69_X4 F dX4_noise_28 mO_o hN.1 (nle rfl) rfl (fun h_e3 e3 => ?_)
      refine g_mput (iv2 := upd iv 7 0) e3 rfl ?_
      refine g_aload_n F dX4_noise_31 0 rfl rfl ?_
      refine gf_X4_69_X4 (v := .int 0) F dX4_noise_32 mO_o rfl ?_
      refine g_if_le (tgt := 42) F dX4_noise_35 (by decide) (fun c4 => ?_) (fun c4 => absurd c4 (by decide))
      refine g_aload_n F dX4_noise_42 0 rfl rfl ?_
      refine g_iload_n F dX4_noise_43 1 rfl rfl ?_
      refine g_iload_n F dX4_noise_44 2 rfl rfl ?_
      refine g_callV F dX4_noise_45 mi_X4_loud q2516 q2518 qs49 gc_X4 mO_o (ct_X4_loud hN (i := i) (by omega)) rfl rfl (nle rfl) (nle rfl) (nle rfl) (g_pur ?_) g_purX
      have hr : qNoise (av 0) nb (nI i) y = (.inl (mLoud (av 0) i y) : xQ) := by grind [qIf, qNoise, nI_clamp]
      exact g_iret F dX4_noise_48 (⟨by rw [hr]; rfl, by rw [hr]; rfl⟩)
    · refine g_iconst (v := 2) F dX4_noise_23 rfl ?_
      refine g_goto (tgt := 28) F dX4_noise_24 (by decide) ?_
      refine gp_X4_69_X4 F dX4_noise_28 mO_o hN.1 (nle rfl) rfl (fun h_e5 e5 => ?_)
      refine g_mput (iv2 := upd iv 7 2) e5 rfl ?_
      refine g_aload_n F dX4_noise_31 0 rfl rfl ?_
      refine gf_X4_69_X4 (v := .int 2) F dX4_noise_32 mO_o rfl ?_
      refine g_if_le (tgt := 42) F dX4_noise_35 (by decide) (fun c6 => absurd c6 (by decide)) (fun c6 => ?_)
      refine g_iconst (v := 0) F dX4_noise_38 rfl ?_
      refine g_goto (tgt := 48) F dX4_noise_39 (by decide) ?_
      have hr : qNoise (av 0) nb (nI i) y = (.inr 2 : xQ) := by grind [qIf, qNoise, nI_clamp]
      exact g_iret F dX4_noise_48 (⟨by rw [hr]; rfl, by rw [hr]; rfl⟩)
  · refine g_iconst (v := 1) F dX4_noise_9 rfl ?_
    refine g_goto (tgt := 28) F dX4_noise_10 (by decide) ?_
    refine gp_X4_69_X4 F dX4_noise_28 mO_o hN.1 (nle rfl) rfl (fun h_e7 e7 => ?_)
    refine g_mput (iv2 := upd iv 7 1) e7 rfl ?_
    refine g_aload_n F dX4_noise_31 0 rfl rfl ?_
    refine gf_X4_69_X4 (v := .int 1) F dX4_noise_32 mO_o rfl ?_
    refine g_if_le (tgt := 42) F dX4_noise_35 (by decide) (fun c8 => absurd c8 (by decide)) (fun c8 => ?_)
    refine g_iconst (v := 0) F dX4_noise_38 rfl ?_
    refine g_goto (tgt := 48) F dX4_noise_39 (by decide) ?_
    have hr : qNoise (av 0) nb x y = (.inr 1 : xQ) := by grind [qIf, qNoise, nI_clamp]
    exact g_iret F dX4_noise_48 (⟨by rw [hr]; rfl, by rw [hr]; rfl⟩)
set_option maxHeartbeats 4000000 in
set_option maxRecDepth 100000 in
theorem ct_X4_wouldRefuse {K : gK} {h : AH} {o : Nat} {L : Nat → Nat} {iv : Nat → Int32} {av : Nat → Nat → Int32} (hN : mN K o L) {x : Int32} {nb nc nh nq : Nat} (hC : mC (av 0) nb nc nh nq) (hL : mL (av 0) nb nc nq) : gCt K yX4_wouldRefuse w_X4_wouldRefuse 4 86 0 0 (mO K h o L iv av) [.ref o, .int x] (pR (.int (qV (qWould (av 0) nb nc nh x))) (mO K h o L (upd iv 7 (qP (qWould (av 0) nb nc nh x))) av)) := by
  refine g_meth pf_X4_wouldRefuse (nle rfl) (fun p e s m args below meth c F hnm htb => ?_)
  have F : gFix K p s m args meth c cX4_wouldRefuse 2 RX4 (some .int) := F
  refine g_eql (lv' := [(0, .ref o), (1, .int x)]) rfl ?_
  obtain ⟨h1, hb, h2, hc, h3, hh, h4, hq⟩ := hC
  refine g_aload_n F dX4_wouldRefuse_0 0 rfl rfl ?_
  refine g_aload_n F dX4_wouldRefuse_1 0 rfl rfl ?_
  refine g_iload_n F dX4_wouldRefuse_2 1 rfl rfl ?_
  refine g_callV F dX4_wouldRefuse_3 mi_X4_isBar q2369 q2371 qs29 gc_X4 mO_o (ct_X4_isBar hN h1) rfl rfl (nle rfl) (nle rfl) (nle rfl) (g_pur ?_) g_purX
  refine g_if_eq (tgt := 13) F dX4_wouldRefuse_6 (by decide) (fun c1 => ?_) (fun c1 => ?_)
  · refine g_iconst (v := 1) F dX4_wouldRefuse_13 rfl ?_
    refine gp_X4_69_X4 F dX4_wouldRefuse_14 mO_o hN.1 (nle rfl) rfl (fun h_e2 e2 => ?_)
    refine g_mput (iv2 := upd iv 7 1) e2 rfl ?_
    refine g_aload_n F dX4_wouldRefuse_17 0 rfl rfl ?_
    refine gf_X4_69_X4 (v := .int 1) F dX4_wouldRefuse_18 mO_o rfl ?_
    refine g_if_le (tgt := 28) F dX4_wouldRefuse_21 (by decide) (fun c3 => absurd c3 (by decide)) (fun c3 => ?_)
    refine g_iconst (v := 0) F dX4_wouldRefuse_24 rfl ?_
    refine g_goto (tgt := 33) F dX4_wouldRefuse_25 (by decide) ?_
    have hr : qWould (av 0) nb nc nh x = (.inr 1 : xQ) := by grind [qIf, qWould, nI_clamp]
    exact g_iret F dX4_wouldRefuse_33 (⟨by rw [hr]; rfl, by rw [hr]; rfl⟩)
  · obtain ⟨i, hi, rfl⟩ := xAt_i (by omega) c1
    refine g_iconst (v := 0) F dX4_wouldRefuse_9 rfl ?_
    refine g_goto (tgt := 14) F dX4_wouldRefuse_10 (by decide) ?_
    refine gp_X4_69_X4 F dX4_wouldRefuse_14 mO_o hN.1 (nle rfl) rfl (fun h_e4 e4 => ?_)
    refine g_mput (iv2 := upd iv 7 0) e4 rfl ?_
    refine g_aload_n F dX4_wouldRefuse_17 0 rfl rfl ?_
    refine gf_X4_69_X4 (v := .int 0) F dX4_wouldRefuse_18 mO_o rfl ?_
    refine g_if_le (tgt := 28) F dX4_wouldRefuse_21 (by decide) (fun c5 => ?_) (fun c5 => absurd c5 (by decide))
    refine g_aload_n F dX4_wouldRefuse_28 0 rfl rfl ?_
    refine g_iload_n F dX4_wouldRefuse_29 1 rfl rfl ?_
    refine g_callV F dX4_wouldRefuse_30 mi_X4_whyNot q2532 q2534 qs52 gc_X4 mO_o (ct_X4_whyNot hN (i := i) h2 hc h3 hh (by omega)) rfl rfl (nle rfl) (nle rfl) (nle rfl) (g_pur ?_) g_purX
    have hr : qWould (av 0) nb nc nh (nI i) = (.inl (mWhy (av 0) nc nh i) : xQ) := by grind [qIf, qWould, nI_clamp]
    exact g_iret F dX4_wouldRefuse_33 (⟨by rw [hr]; rfl, by rw [hr]; rfl⟩)
set_option maxHeartbeats 4000000 in
set_option maxRecDepth 100000 in
theorem ct_X4_cueOf {K : gK} {h : AH} {o : Nat} {L : Nat → Nat} {iv : Nat → Int32} {av : Nat → Nat → Int32} (hN : mN K o L) {x y : Int32} {nb nc nh nq : Nat} (hC : mC (av 0) nb nc nh nq) (hL : mL (av 0) nb nc nq) : gCt K yX4_cueOf w_X4_cueOf 1 22 0 0 (mO K h o L iv av) [.ref o, .int x, .int y] (pR (.int (qV (qCueOf (av 0) nq x y))) (mO K h o L (upd iv 7 (qP (qCueOf (av 0) nq x y))) av)) := by
  refine g_meth pf_X4_cueOf (nle rfl) (fun p e s m args below meth c F hnm htb => ?_)
  have F : gFix K p s m args meth c cX4_cueOf 3 RX4 (some .int) := F
  refine g_eql (lv' := [(0, .ref o), (1, .int x), (2, .int y)]) rfl ?_
  obtain ⟨h1, hb, h2, hc, h3, hh, h4, hq⟩ := hC
  refine g_aload_n F dX4_cueOf_0 0 rfl rfl ?_
  refine g_iload_n F dX4_cueOf_1 1 rfl rfl ?_
  refine g_iconst (v := 0) F dX4_cueOf_2 rfl ?_
  refine g_aload_n F dX4_cueOf_3 0 rfl rfl ?_
  refine gf_X4_9_X4 (v := .ref (L 0)) F dX4_cueOf_4 mO_o rfl ?_
  refine g_iconst (v := 4) F dX4_cueOf_7 rfl ?_
  refine g_ialdN (i := 4) F (mO_0 hN) (rfl : (4 : Int32) = nI 4) (show 4 = 4 by omega) (by omega) (by decide) dX4_cueOf_8 ?_
  refine g_eqs (st' := [.int (nI nq), .int 0, .int x, .ref o]) (congrArg (fun z => [Value.int z, .int 0, .int x, .ref o]) h4) ?_
  refine g_iconst (v := 1) F dX4_cueOf_9 rfl ?_
  refine g_isub F dX4_cueOf_10 ?_
  refine g_callS F dX4_cueOf_11 mi_X4_in q2346 q2347 ct_X4_in rfl rfl (nle rfl) (nle rfl) (nle rfl) (g_pur ?_) g_purX
  refine g_if_ne (tgt := 21) F dX4_cueOf_14 (by decide) (fun c1 => ?_) (fun c1 => ?_)
  · obtain ⟨i, hi, rfl⟩ := xAt_i (by omega) c1
    refine g_iload_n F dX4_cueOf_21 2 rfl rfl ?_
    refine g_iconst (v := 0) F dX4_cueOf_22 rfl ?_
    refine g_iconst (v := 3) F dX4_cueOf_23 rfl ?_
    refine g_callS F dX4_cueOf_24 mi_X4_in q2346 q2347 ct_X4_in rfl rfl (nle rfl) (nle rfl) (nle rfl) (g_pur ?_) g_purX
    refine g_if_ne (tgt := 34) F dX4_cueOf_27 (by decide) (fun c2 => ?_) (fun c2 => ?_)
    · obtain ⟨j, hj, rfl⟩ := xAt_i (n := 4) (by omega) c2
      refine g_iconst (v := 0) F dX4_cueOf_34 rfl ?_
      refine gp_X4_69_X4 F dX4_cueOf_35 mO_o hN.1 (nle rfl) rfl (fun h_e3 e3 => ?_)
      refine g_mput (iv2 := upd iv 7 0) e3 rfl ?_
      refine g_aload_n F dX4_cueOf_38 0 rfl rfl ?_
      refine gf_X4_69_X4 (v := .int 0) F dX4_cueOf_39 mO_o rfl ?_
      refine g_if_le (tgt := 49) F dX4_cueOf_42 (by decide) (fun c4 => ?_) (fun c4 => absurd c4 (by decide))
      refine g_aload_n F dX4_cueOf_49 0 rfl rfl ?_
      refine g_iload_n F dX4_cueOf_50 1 rfl rfl ?_
      refine g_iload_n F dX4_cueOf_51 2 rfl rfl ?_
      refine g_callV F dX4_cueOf_52 mi_X4_cue1 q2548 q2550 qs54 gc_X4 mO_o (ct_X4_cue1 hN (i := 83 + 4 * i + j) (nto (nadd (nadd (rfl : (83 : Int32) = nI 83) (nmul (rfl : (4 : Int32) = nI 4) rfl)) rfl) (show ((83 + (4 * i)) + j) = 83 + 4 * i + j by omega)) (by omega)) rfl rfl (nle rfl) (nle rfl) (nle rfl) (g_pur ?_) g_purX
      have hr : qCueOf (av 0) nq (nI i) (nI j) = (.inl (av 0 (83 + 4 * i + j)) : xQ) := by grind [qIf, qCueOf, nI_clamp]
      exact g_iret F dX4_cueOf_55 (⟨by rw [hr]; rfl, by rw [hr]; rfl⟩)
    · refine g_iconst (v := 2) F dX4_cueOf_30 rfl ?_
      refine g_goto (tgt := 35) F dX4_cueOf_31 (by decide) ?_
      refine gp_X4_69_X4 F dX4_cueOf_35 mO_o hN.1 (nle rfl) rfl (fun h_e5 e5 => ?_)
      refine g_mput (iv2 := upd iv 7 2) e5 rfl ?_
      refine g_aload_n F dX4_cueOf_38 0 rfl rfl ?_
      refine gf_X4_69_X4 (v := .int 2) F dX4_cueOf_39 mO_o rfl ?_
      refine g_if_le (tgt := 49) F dX4_cueOf_42 (by decide) (fun c6 => absurd c6 (by decide)) (fun c6 => ?_)
      refine g_iconst (v := 0) F dX4_cueOf_45 rfl ?_
      refine g_goto (tgt := 55) F dX4_cueOf_46 (by decide) ?_
      have hr : qCueOf (av 0) nq (nI i) y = (.inr 2 : xQ) := by grind [qIf, qCueOf, nI_clamp]
      exact g_iret F dX4_cueOf_55 (⟨by rw [hr]; rfl, by rw [hr]; rfl⟩)
  · refine g_iconst (v := 1) F dX4_cueOf_17 rfl ?_
    refine g_goto (tgt := 35) F dX4_cueOf_18 (by decide) ?_
    refine gp_X4_69_X4 F dX4_cueOf_35 mO_o hN.1 (nle rfl) rfl (fun h_e7 e7 => ?_)
    refine g_mput (iv2 := upd iv 7 1) e7 rfl ?_
    refine g_aload_n F dX4_cueOf_38 0 rfl rfl ?_
    refine gf_X4_69_X4 (v := .int 1) F dX4_cueOf_39 mO_o rfl ?_
    refine g_if_le (tgt := 49) F dX4_cueOf_42 (by decide) (fun c8 => absurd c8 (by decide)) (fun c8 => ?_)
    refine g_iconst (v := 0) F dX4_cueOf_45 rfl ?_
    refine g_goto (tgt := 55) F dX4_cueOf_46 (by decide) ?_
    have hr : qCueOf (av 0) nq x y = (.inr 1 : xQ) := by grind [qIf, qCueOf, nI_clamp]
    exact g_iret F dX4_cueOf_55 (⟨by rw [hr]; rfl, by rw [hr]; rfl⟩)
set_option maxHeartbeats 4000000 in
set_option maxRecDepth 100000 in
theorem ct_X4_nextLight {K : gK} {h : AH} {o : Nat} {L : Nat → Nat} {iv : Nat → Int32} {av : Nat → Nat → Int32} (hN : mN K o L)  {nb nc nh nq : Nat} (hC : mC (av 0) nb nc nh nq) (hL : mL (av 0) nb nc nq) : gCt K yX4_nextLight w_X4_nextLight 2 43 0 0 (mO K h o L iv av) [.ref o] (pR (.int (qV (qLight (av 0) nq))) (mO K h o L (upd iv 7 (qP (qLight (av 0) nq))) av)) := by
  refine g_meth pf_X4_nextLight (nle rfl) (fun p e s m args below meth c F hnm htb => ?_)
  have F : gFix K p s m args meth c cX4_nextLight 2 RX4 (some .int) := F
  refine g_eql (lv' := [(0, .ref o)]) rfl ?_
  obtain ⟨h1, hb, h2, hc, h3, hh, h4, hq⟩ := hC
  refine g_aload_n F dX4_nextLight_0 0 rfl rfl ?_
  refine g_callV F dX4_nextLight_1 mi_X4_next q2560 q2562 qs55 gc_X4 mO_o (ct_X4_next hN h4 hq) rfl rfl (nle rfl) (nle rfl) (nle rfl) (g_pur ?_) g_purX
  rcases hnx : xNext (av 0) nq with _ | k
  · refine g_eqs (st' := [.int (-1)]) rfl ?_
    refine g_istore_n (lv' := [(1, .int (-1)), (0, .ref o)]) F dX4_nextLight_4 rfl (by decide) rfl ?_
    refine g_aload_n F dX4_nextLight_5 1 rfl rfl ?_
    refine g_iload_n F dX4_nextLight_6 0 rfl rfl ?_
    refine g_if_ge (tgt := 14) F dX4_nextLight_7 (by decide) (fun c1 => absurd c1 (by decide)) (fun c1 => ?_)
    refine g_iconst (v := 1) F dX4_nextLight_10 rfl ?_
    refine g_goto (tgt := 15) F dX4_nextLight_11 (by decide) ?_
    refine gp_X4_69_X4 F dX4_nextLight_15 mO_o hN.1 (nle rfl) rfl (fun h_e2 e2 => ?_)
    refine g_mput (iv2 := upd iv 7 1) e2 rfl ?_
    refine g_aload_n F dX4_nextLight_18 1 rfl rfl ?_
    refine gf_X4_69_X4 (v := .int 1) F dX4_nextLight_19 mO_o rfl ?_
    refine g_if_le (tgt := 29) F dX4_nextLight_22 (by decide) (fun c3 => absurd c3 (by decide)) (fun c3 => ?_)
    refine g_iconst (v := 0) F dX4_nextLight_25 rfl ?_
    refine g_goto (tgt := 35) F dX4_nextLight_26 (by decide) ?_
    have hr : qLight (av 0) nq = (.inr 1 : xQ) := by (simp only [qLight, hnx])
    exact g_iret F dX4_nextLight_35 (⟨by rw [hr]; rfl, by rw [hr]; rfl⟩)
  · obtain ⟨-, hkq, -⟩ := xNx_lt _ _ _ hnx
    have hkq : k < nq := by omega
    refine g_eqs (st' := [.int (nI k)]) rfl ?_
    refine g_istore_n (lv' := [(1, .int (nI k)), (0, .ref o)]) F dX4_nextLight_4 rfl (by decide) rfl ?_
    refine g_aload_n F dX4_nextLight_5 1 rfl rfl ?_
    refine g_iload_n F dX4_nextLight_6 0 rfl rfl ?_
    refine g_if_ge (tgt := 14) F dX4_nextLight_7 (by decide) (fun c4 => ?_) (fun c4 => absurd c4 (absurd (nI_pos' (n := k) (by omega)) c4))
    refine g_iconst (v := 0) F dX4_nextLight_14 rfl ?_
    refine gp_X4_69_X4 F dX4_nextLight_15 mO_o hN.1 (nle rfl) rfl (fun h_e5 e5 => ?_)
    refine g_mput (iv2 := upd iv 7 0) e5 rfl ?_
    refine g_aload_n F dX4_nextLight_18 1 rfl rfl ?_
    refine gf_X4_69_X4 (v := .int 0) F dX4_nextLight_19 mO_o rfl ?_
    refine g_if_le (tgt := 29) F dX4_nextLight_22 (by decide) (fun c6 => ?_) (fun c6 => absurd c6 (by decide))
    refine g_aload_n F dX4_nextLight_29 1 rfl rfl ?_
    refine g_iload_n F dX4_nextLight_30 0 rfl rfl ?_
    refine g_iconst (v := 0) F dX4_nextLight_31 rfl ?_
    refine g_callV F dX4_nextLight_32 mi_X4_cue1 q2548 q2550 qs54 gc_X4 mO_o (ct_X4_cue1 hN (i := 83 + 4 * k) (nto (nadd (nadd (rfl : (83 : Int32) = nI 83) (nmul (rfl : (4 : Int32) = nI 4) rfl)) (rfl : (0 : Int32) = nI 0)) (show ((83 + (4 * k)) + 0) = 83 + 4 * k by omega)) (by omega)) rfl rfl (nle rfl) (nle rfl) (nle rfl) (g_pur ?_) g_purX
    have hr : qLight (av 0) nq = (.inl (av 0 (83 + 4 * k)) : xQ) := by (simp only [qLight, hnx])
    exact g_iret F dX4_nextLight_35 (⟨by rw [hr]; rfl, by rw [hr]; rfl⟩)
set_option maxHeartbeats 4000000 in
set_option maxRecDepth 100000 in
theorem ct_X4_refusal {K : gK} {h : AH} {o : Nat} {L : Nat → Nat} {iv : Nat → Int32} {av : Nat → Nat → Int32} (hN : mN K o L) {z : Int32}  : gCt K yX4_refusal w_X4_refusal 0 0 0 0 (mO K h o L iv av) [.ref o, .int z] (pR (.int (qV (qRef (iv 8) (iv 9) z))) (mO K h o L (upd iv 7 (qP (qRef (iv 8) (iv 9) z))) av)) := by
  refine g_meth pf_X4_refusal (nle rfl) (fun p e s m args below meth c F hnm htb => ?_)
  have F : gFix K p s m args meth c cX4_refusal 2 RX4 (some .int) := F
  refine g_eql (lv' := [(0, .ref o), (1, .int z)]) rfl ?_
  refine g_aload_n F dX4_refusal_0 0 rfl rfl ?_
  refine g_aload_n F dX4_refusal_1 0 rfl rfl ?_
  refine gf_X4_81_X4 (v := .int (iv 8)) F dX4_refusal_2 mO_o rfl ?_
  refine g_if_ne (tgt := 12) F dX4_refusal_5 (by decide) (fun c1 => ?_) (fun c1 => ?_)
  · refine g_iconst (v := 0) F dX4_refusal_12 rfl ?_
    refine gp_X4_69_X4 F dX4_refusal_13 mO_o hN.1 (nle rfl) rfl (fun h_e2 e2 => ?_)
    refine g_mput (iv2 := upd iv 7 0) e2 rfl ?_
    refine g_aload_n F dX4_refusal_16 0 rfl rfl ?_
    refine gf_X4_69_X4 (v := .int 0) F dX4_refusal_17 mO_o rfl ?_
    refine g_if_le (tgt := 27) F dX4_refusal_20 (by decide) (fun c3 => ?_) (fun c3 => absurd c3 (by decide))
    refine g_iload_n F dX4_refusal_27 1 rfl rfl ?_
    refine g_if_eq (tgt := 38) F dX4_refusal_28 (by decide) (fun c4 => ?_) (fun c4 => ?_)
    · refine g_aload_n F dX4_refusal_38 0 rfl rfl ?_
      refine gf_X4_81_X4 (v := .int (iv 8)) F dX4_refusal_39 mO_o rfl ?_
      have hr : qRef (iv 8) (iv 9) z = (.inl (iv 8) : xQ) := by grind [qIf, qRef, nI_clamp]
      exact g_iret F dX4_refusal_42 (⟨by rw [hr]; rfl, by rw [hr]; rfl⟩)
    · refine g_aload_n F dX4_refusal_31 0 rfl rfl ?_
      refine gf_X4_84_X4 (v := .int (iv 9)) F dX4_refusal_32 mO_o rfl ?_
      refine g_goto (tgt := 42) F dX4_refusal_35 (by decide) ?_
      have hr : qRef (iv 8) (iv 9) z = (.inl (iv 9) : xQ) := by grind [qIf, qRef, nI_clamp]
      exact g_iret F dX4_refusal_42 (⟨by rw [hr]; rfl, by rw [hr]; rfl⟩)
  · refine g_iconst (v := 1) F dX4_refusal_8 rfl ?_
    refine g_goto (tgt := 13) F dX4_refusal_9 (by decide) ?_
    refine gp_X4_69_X4 F dX4_refusal_13 mO_o hN.1 (nle rfl) rfl (fun h_e5 e5 => ?_)
    refine g_mput (iv2 := upd iv 7 1) e5 rfl ?_
    refine g_aload_n F dX4_refusal_16 0 rfl rfl ?_
    refine gf_X4_69_X4 (v := .int 1) F dX4_refusal_17 mO_o rfl ?_
    refine g_if_le (tgt := 27) F dX4_refusal_20 (by decide) (fun c6 => absurd c6 (by decide)) (fun c6 => ?_)
    refine g_iconst (v := 0) F dX4_refusal_23 rfl ?_
    refine g_goto (tgt := 42) F dX4_refusal_24 (by decide) ?_
    have hr : qRef (iv 8) (iv 9) z = (.inr 1 : xQ) := by grind [qIf, qRef, nI_clamp]
    exact g_iret F dX4_refusal_42 (⟨by rw [hr]; rfl, by rw [hr]; rfl⟩)
set_option maxHeartbeats 4000000 in
set_option maxRecDepth 100000 in
theorem ct_X4_errorPosition {K : gK} {h : AH} {o : Nat} {L : Nat → Nat} {iv : Nat → Int32} {av : Nat → Nat → Int32} (hN : mN K o L)   : gCt K yX4_errorPosition w_X4_errorPosition 0 0 0 0 (mO K h o L iv av) [.ref o] (pR (.int (qV (qNeg (iv 17)))) (mO K h o L (upd iv 7 (qP (qNeg (iv 17)))) av)) := by
  refine g_meth pf_X4_errorPosition (nle rfl) (fun p e s m args below meth c F hnm htb => ?_)
  have F : gFix K p s m args meth c cX4_errorPosition 1 RX4 (some .int) := F
  refine g_eql (lv' := [(0, .ref o)]) rfl ?_
  refine g_aload_n F dX4_errorPosition_0 0 rfl rfl ?_
  refine g_aload_n F dX4_errorPosition_1 0 rfl rfl ?_
  refine gf_X4_56_X4 (v := .int (iv 17)) F dX4_errorPosition_2 mO_o rfl ?_
  refine g_if_ge (tgt := 12) F dX4_errorPosition_5 (by decide) (fun c1 => ?_) (fun c1 => ?_)
  · refine g_iconst (v := 0) F dX4_errorPosition_12 rfl ?_
    refine gp_X4_69_X4 F dX4_errorPosition_13 mO_o hN.1 (nle rfl) rfl (fun h_e2 e2 => ?_)
    refine g_mput (iv2 := upd iv 7 0) e2 rfl ?_
    refine g_aload_n F dX4_errorPosition_16 0 rfl rfl ?_
    refine gf_X4_69_X4 (v := .int 0) F dX4_errorPosition_17 mO_o rfl ?_
    refine g_if_le (tgt := 27) F dX4_errorPosition_20 (by decide) (fun c3 => ?_) (fun c3 => absurd c3 (by decide))
    refine g_aload_n F dX4_errorPosition_27 0 rfl rfl ?_
    refine gf_X4_56_X4 (v := .int (iv 17)) F dX4_errorPosition_28 mO_o rfl ?_
    have hr : qNeg (iv 17) = (.inl (iv 17) : xQ) := by grind [qIf, qNeg, nI_clamp]
    exact g_iret F dX4_errorPosition_31 (⟨by rw [hr]; rfl, by rw [hr]; rfl⟩)
  · refine g_iconst (v := 1) F dX4_errorPosition_8 rfl ?_
    refine g_goto (tgt := 13) F dX4_errorPosition_9 (by decide) ?_
    refine gp_X4_69_X4 F dX4_errorPosition_13 mO_o hN.1 (nle rfl) rfl (fun h_e4 e4 => ?_)
    refine g_mput (iv2 := upd iv 7 1) e4 rfl ?_
    refine g_aload_n F dX4_errorPosition_16 0 rfl rfl ?_
    refine gf_X4_69_X4 (v := .int 1) F dX4_errorPosition_17 mO_o rfl ?_
    refine g_if_le (tgt := 27) F dX4_errorPosition_20 (by decide) (fun c5 => absurd c5 (by decide)) (fun c5 => ?_)
    refine g_iconst (v := 0) F dX4_errorPosition_23 rfl ?_
    refine g_goto (tgt := 31) F dX4_errorPosition_24 (by decide) ?_
    have hr : qNeg (iv 17) = (.inr 1 : xQ) := by grind [qIf, qNeg, nI_clamp]
    exact g_iret F dX4_errorPosition_31 (⟨by rw [hr]; rfl, by rw [hr]; rfl⟩)
set_option maxHeartbeats 4000000 in
set_option maxRecDepth 100000 in
theorem ct_X4_refusedItem {K : gK} {h : AH} {o : Nat} {L : Nat → Nat} {iv : Nat → Int32} {av : Nat → Nat → Int32} (hN : mN K o L)   : gCt K yX4_refusedItem w_X4_refusedItem 0 0 0 0 (mO K h o L iv av) [.ref o] (pR (.int (qV (qNeg (iv 18)))) (mO K h o L (upd iv 7 (qP (qNeg (iv 18)))) av)) := by
  refine g_meth pf_X4_refusedItem (nle rfl) (fun p e s m args below meth c F hnm htb => ?_)
  have F : gFix K p s m args meth c cX4_refusedItem 1 RX4 (some .int) := F
  refine g_eql (lv' := [(0, .ref o)]) rfl ?_
  refine g_aload_n F dX4_refusedItem_0 0 rfl rfl ?_
  refine g_aload_n F dX4_refusedItem_1 0 rfl rfl ?_
  refine gf_X4_60_X4 (v := .int (iv 18)) F dX4_refusedItem_2 mO_o rfl ?_
  refine g_if_ge (tgt := 12) F dX4_refusedItem_5 (by decide) (fun c1 => ?_) (fun c1 => ?_)
  · refine g_iconst (v := 0) F dX4_refusedItem_12 rfl ?_
    refine gp_X4_69_X4 F dX4_refusedItem_13 mO_o hN.1 (nle rfl) rfl (fun h_e2 e2 => ?_)
    refine g_mput (iv2 := upd iv 7 0) e2 rfl ?_
    refine g_aload_n F dX4_refusedItem_16 0 rfl rfl ?_
    refine gf_X4_69_X4 (v := .int 0) F dX4_refusedItem_17 mO_o rfl ?_
    refine g_if_le (tgt := 27) F dX4_refusedItem_20 (by decide) (fun c3 => ?_) (fun c3 => absurd c3 (by decide))
    refine g_aload_n F dX4_refusedItem_27 0 rfl rfl ?_
    refine gf_X4_60_X4 (v := .int (iv 18)) F dX4_refusedItem_28 mO_o rfl ?_
    have hr : qNeg (iv 18) = (.inl (iv 18) : xQ) := by grind [qIf, qNeg, nI_clamp]
    exact g_iret F dX4_refusedItem_31 (⟨by rw [hr]; rfl, by rw [hr]; rfl⟩)
  · refine g_iconst (v := 1) F dX4_refusedItem_8 rfl ?_
    refine g_goto (tgt := 13) F dX4_refusedItem_9 (by decide) ?_
    refine gp_X4_69_X4 F dX4_refusedItem_13 mO_o hN.1 (nle rfl) rfl (fun h_e4 e4 => ?_)
    refine g_mput (iv2 := upd iv 7 1) e4 rfl ?_
    refine g_aload_n F dX4_refusedItem_16 0 rfl rfl ?_
    refine gf_X4_69_X4 (v := .int 1) F dX4_refusedItem_17 mO_o rfl ?_
    refine g_if_le (tgt := 27) F dX4_refusedItem_20 (by decide) (fun c5 => absurd c5 (by decide)) (fun c5 => ?_)
    refine g_iconst (v := 0) F dX4_refusedItem_23 rfl ?_
    refine g_goto (tgt := 31) F dX4_refusedItem_24 (by decide) ?_
    have hr : qNeg (iv 18) = (.inr 1 : xQ) := by grind [qIf, qNeg, nI_clamp]
    exact g_iret F dX4_refusedItem_31 (⟨by rw [hr]; rfl, by rw [hr]; rfl⟩)
set_option maxHeartbeats 4000000 in
set_option maxRecDepth 100000 in
theorem ct_X4_storeAgain {K : gK} {h : AH} {o : Nat} {L : Nat → Nat} {iv : Nat → Int32} {av : Nat → Nat → Int32} (hN : mN K o L) {nb : Nat} (h1 : av 0 1 = nI nb) (hb : nb ≤ 8) : gCt K yX4_storeAgain w_X4_storeAgain 2 44 0 0 (mO K h o L iv av) [.ref o] (pR (.int (60 - mOn (av 0) nb)) (mO K h o L (upd iv 7 0) av)) := by
  refine g_meth pf_X4_storeAgain (nle rfl) (fun p e s m args below meth c F hnm htb => ?_)
  have F : gFix K p s m args meth c cX4_storeAgain 1 RX4 (some .int) := F
  refine g_eql (lv' := [(0, .ref o)]) rfl ?_
  refine g_aload_n F dX4_storeAgain_0 0 rfl rfl ?_
  refine g_iconst (v := 0) F dX4_storeAgain_1 rfl ?_
  refine gp_X4_69_X4 F dX4_storeAgain_2 mO_o hN.1 (nle rfl) rfl (fun h_e1 e1 => ?_)
  refine g_mput (iv2 := upd iv 7 0) e1 rfl ?_
  refine g_bipush (v := 60) F dX4_storeAgain_5 rfl ?_
  refine g_aload_n F dX4_storeAgain_7 0 rfl rfl ?_
  refine g_callV F dX4_storeAgain_8 mi_X4_onBars q2463 q2465 qs44 gc_X4 mO_o (ct_X4_onBars hN h1 hb) rfl rfl (nle rfl) (nle rfl) (nle rfl) (g_pur ?_) g_purX
  refine g_isub F dX4_storeAgain_11 ?_
  exact g_iret F dX4_storeAgain_12 (⟨rfl, rfl⟩)
set_option maxHeartbeats 4000000 in
set_option maxRecDepth 100000 in
theorem ct_X4_hanging {K : gK} {h : AH} {o : Nat} {L : Nat → Nat} {iv : Nat → Int32} {av : Nat → Nat → Int32} (hN : mN K o L) {nc : Nat} (h2 : av 0 2 = nI nc) (hc : nc ≤ 12) {x : Int32} : gCt K yX4_hanging w_X4_hanging 1 21 0 0 (mO K h o L iv av) [.ref o, .int x] (pR (.int (mHang (av 0) x nc)) (mO K h o L iv av)) := by
  refine g_meth pf_X4_hanging (nle rfl) (fun p e s m args below meth c F hnm htb => ?_)
  have F : gFix K p s m args meth c cX4_hanging 4 RX4 (some .int) := F
  refine g_eql (lv' := [(0, .ref o), (1, .int x)]) rfl ?_
  refine g_iconst (v := 0) F dX4_hanging_0 rfl ?_
  refine g_istore_n (lv' := [(2, .int 0), (0, .ref o), (1, .int x)]) F dX4_hanging_1 rfl (by decide) rfl ?_
  refine g_iconst (v := 0) F dX4_hanging_2 rfl ?_
  refine g_istore_n (lv' := [(3, .int 0), (2, .int 0), (0, .ref o), (1, .int x)]) F dX4_hanging_3 rfl (by decide) rfl ?_
  refine g_lv (lv' := [(0, .ref o), (1, .int x), (2, .int 0), (3, .int 0)]) [2, 3, 1, 0] rfl ?_
  have lp : ∀ k, k ≤ nc → G K p e s m args below meth c (gRm 1 21 0 0) 4 (pR (.int (mHang (av 0) x nc)) (mO K h o L iv av)) (mO K h o L iv av) 0 0 4 [(0, .ref o), (1, .int x), (2, .int (mSum (fun k => if av 0 (44 + 2 * k) < 0 then 0 else if x = 0 then 1 else av 0 (43 + 2 * k)) k)), (3, .int (nI k))] [] := by
    refine gloop nc (fun k hk ih => ?_)
    refine g_iload_n F dX4_hanging_4 3 rfl rfl ?_
    refine g_aload_n F dX4_hanging_5 0 rfl rfl ?_
    refine gf_X4_9_X4 (v := .ref (L 0)) F dX4_hanging_6 mO_o rfl ?_
    refine g_iconst (v := 2) F dX4_hanging_9 rfl ?_
    refine g_ialdN (i := 2) F (mO_0 hN) (rfl : (2 : Int32) = nI 2) (show 2 = 2 by omega) (by omega) (by decide) dX4_hanging_10 ?_
    refine g_eqs (st' := [.int (nI nc), .int (nI k)]) (by rw [h2]) ?_
    refine g_icmp_ge (tgt := 48) F dX4_hanging_11 (by decide) (fun c1 => ?_) (fun c1 => ?_)
    · have hkN : k = nc := gexit (by omega) hk c1
      subst hkN
      refine g_iload_n F dX4_hanging_48 2 rfl rfl ?_
      exact g_iret F dX4_hanging_49 (⟨rfl, rfl⟩)
    · have hlt : k < nc := gbody (by omega) hk c1
      refine g_iload_n F dX4_hanging_14 2 rfl rfl ?_
      refine g_aload_n F dX4_hanging_15 0 rfl rfl ?_
      refine g_iload_n F dX4_hanging_16 3 rfl rfl ?_
      refine g_callV F dX4_hanging_17 mi_X4_barOf1 q2381 q2383 qs32 gc_X4 mO_o (ct_X4_barOf1 hN (i := 44 + 2 * k) (nto (nadd (nadd (rfl : (43 : Int32) = nI 43) (nmul (rfl : (2 : Int32) = nI 2) rfl)) (rfl : (1 : Int32) = nI 1)) (show ((43 + (2 * k)) + 1) = 44 + 2 * k by omega)) (by omega)) rfl rfl (nle rfl) (nle rfl) (nle rfl) (g_pur ?_) g_purX
      refine g_if_ge (tgt := 27) F dX4_hanging_20 (by decide) (fun c2 => ?_) (fun c2 => ?_)
      · refine g_iload_n F dX4_hanging_27 1 rfl rfl ?_
        refine g_if_eq (tgt := 39) F dX4_hanging_28 (by decide) (fun c3 => ?_) (fun c3 => ?_)
        · refine g_iconst (v := 1) F dX4_hanging_39 rfl ?_
          refine g_iadd F dX4_hanging_40 ?_
          refine g_istore_n (lv' := [(2, .int ((mSum (fun k => if av 0 (44 + 2 * k) < 0 then 0 else if x = 0 then 1 else av 0 (43 + 2 * k)) k) + 1)), (0, .ref o), (1, .int x), (3, .int (nI k))]) F dX4_hanging_41 rfl (by decide) rfl ?_
          refine g_iinc (lv' := [(3, .int ((nI k) + 1)), (2, .int ((mSum (fun k => if av 0 (44 + 2 * k) < 0 then 0 else if x = 0 then 1 else av 0 (43 + 2 * k)) k) + 1)), (0, .ref o), (1, .int x)]) (v := (nI k) + 1) F dX4_hanging_42 (k := 3) rfl rfl (by decide) rfl ?_
          refine g_goto (tgt := 4) F dX4_hanging_45 (by decide) ?_
          refine g_lv (lv' := [(0, .ref o), (1, .int x), (2, .int ((mSum (fun k => if av 0 (44 + 2 * k) < 0 then 0 else if x = 0 then 1 else av 0 (43 + 2 * k)) k) + 1)), (3, .int ((nI k) + 1))]) [2, 3, 1, 0] rfl ?_
          exact g_eql (lv' := [(0, .ref o), (1, .int x), (2, .int (mSum (fun k => if av 0 (44 + 2 * k) < 0 then 0 else if x = 0 then 1 else av 0 (43 + 2 * k)) (k + 1))), (3, .int (nI (k + 1)))]) (by simp only [nI_1, mSum_s]; grind) (ih hlt)
        · refine g_aload_n F dX4_hanging_31 0 rfl rfl ?_
          refine g_iload_n F dX4_hanging_32 3 rfl rfl ?_
          refine g_callV F dX4_hanging_33 mi_X4_weightOf q2385 q2387 qs33 gc_X4 mO_o (ct_X4_weightOf hN (i := 43 + 2 * k) (nto (nadd (rfl : (43 : Int32) = nI 43) (nmul (rfl : (2 : Int32) = nI 2) rfl)) (show (43 + (2 * k)) = 43 + 2 * k by omega)) (by omega)) rfl rfl (nle rfl) (nle rfl) (nle rfl) (g_pur ?_) g_purX
          refine g_goto (tgt := 40) F dX4_hanging_36 (by decide) ?_
          refine g_iadd F dX4_hanging_40 ?_
          refine g_istore_n (lv' := [(2, .int ((mSum (fun k => if av 0 (44 + 2 * k) < 0 then 0 else if x = 0 then 1 else av 0 (43 + 2 * k)) k) + (av 0 (43 + 2 * k)))), (0, .ref o), (1, .int x), (3, .int (nI k))]) F dX4_hanging_41 rfl (by decide) rfl ?_
          refine g_iinc (lv' := [(3, .int ((nI k) + 1)), (2, .int ((mSum (fun k => if av 0 (44 + 2 * k) < 0 then 0 else if x = 0 then 1 else av 0 (43 + 2 * k)) k) + (av 0 (43 + 2 * k)))), (0, .ref o), (1, .int x)]) (v := (nI k) + 1) F dX4_hanging_42 (k := 3) rfl rfl (by decide) rfl ?_
          refine g_goto (tgt := 4) F dX4_hanging_45 (by decide) ?_
          refine g_lv (lv' := [(0, .ref o), (1, .int x), (2, .int ((mSum (fun k => if av 0 (44 + 2 * k) < 0 then 0 else if x = 0 then 1 else av 0 (43 + 2 * k)) k) + (av 0 (43 + 2 * k)))), (3, .int ((nI k) + 1))]) [2, 3, 1, 0] rfl ?_
          exact g_eql (lv' := [(0, .ref o), (1, .int x), (2, .int (mSum (fun k => if av 0 (44 + 2 * k) < 0 then 0 else if x = 0 then 1 else av 0 (43 + 2 * k)) (k + 1))), (3, .int (nI (k + 1)))]) (by simp only [nI_1, mSum_s]; grind) (ih hlt)
      · refine g_iconst (v := 0) F dX4_hanging_23 rfl ?_
        refine g_goto (tgt := 40) F dX4_hanging_24 (by decide) ?_
        refine g_iadd F dX4_hanging_40 ?_
        refine g_istore_n (lv' := [(2, .int ((mSum (fun k => if av 0 (44 + 2 * k) < 0 then 0 else if x = 0 then 1 else av 0 (43 + 2 * k)) k) + 0)), (0, .ref o), (1, .int x), (3, .int (nI k))]) F dX4_hanging_41 rfl (by decide) rfl ?_
        refine g_iinc (lv' := [(3, .int ((nI k) + 1)), (2, .int ((mSum (fun k => if av 0 (44 + 2 * k) < 0 then 0 else if x = 0 then 1 else av 0 (43 + 2 * k)) k) + 0)), (0, .ref o), (1, .int x)]) (v := (nI k) + 1) F dX4_hanging_42 (k := 3) rfl rfl (by decide) rfl ?_
        refine g_goto (tgt := 4) F dX4_hanging_45 (by decide) ?_
        refine g_lv (lv' := [(0, .ref o), (1, .int x), (2, .int ((mSum (fun k => if av 0 (44 + 2 * k) < 0 then 0 else if x = 0 then 1 else av 0 (43 + 2 * k)) k) + 0)), (3, .int ((nI k) + 1))]) [2, 3, 1, 0] rfl ?_
        exact g_eql (lv' := [(0, .ref o), (1, .int x), (2, .int (mSum (fun k => if av 0 (44 + 2 * k) < 0 then 0 else if x = 0 then 1 else av 0 (43 + 2 * k)) (k + 1))), (3, .int (nI (k + 1)))]) (by simp only [nI_1, mSum_s]; grind) (ih hlt)
  exact lp 0 (Nat.zero_le _)
set_option maxHeartbeats 4000000 in
set_option maxRecDepth 100000 in
theorem ct_X4_unbalanced {K : gK} {h : AH} {o : Nat} {L : Nat → Nat} {iv : Nat → Int32} {av : Nat → Nat → Int32} (hN : mN K o L) {nb : Nat} (h1 : av 0 1 = nI nb) (hb : nb ≤ 8) {nc : Nat} (h2 : av 0 2 = nI nc) (hc : nc ≤ 12) : gCt K yX4_unbalanced w_X4_unbalanced 3 65 0 0 (mO K h o L iv av) [.ref o] (pR (.int (mUnb (av 0) nc nb)) (mO K h o L iv av)) := by
  refine g_meth pf_X4_unbalanced (nle rfl) (fun p e s m args below meth c F hnm htb => ?_)
  have F : gFix K p s m args meth c cX4_unbalanced 3 RX4 (some .int) := F
  refine g_eql (lv' := [(0, .ref o)]) rfl ?_
  refine g_iconst (v := 0) F dX4_unbalanced_0 rfl ?_
  refine g_istore_n (lv' := [(1, .int 0), (0, .ref o)]) F dX4_unbalanced_1 rfl (by decide) rfl ?_
  refine g_iconst (v := 0) F dX4_unbalanced_2 rfl ?_
  refine g_istore_n (lv' := [(2, .int 0), (1, .int 0), (0, .ref o)]) F dX4_unbalanced_3 rfl (by decide) rfl ?_
  refine g_lv (lv' := [(0, .ref o), (1, .int 0), (2, .int 0)]) [2, 1, 0] rfl ?_
  have lp : ∀ k, k ≤ nb → G K p e s m args below meth c (gRm 3 65 0 0) 3 (pR (.int (mUnb (av 0) nc nb)) (mO K h o L iv av)) (mO K h o L iv av) 0 0 4 [(0, .ref o), (1, .int (mSum (fun k => if av 0 5 < mOff (av 0) nc k (nI k) then 1 else 0) k)), (2, .int (nI k))] [] := by
    refine gloop nb (fun k hk ih => ?_)
    refine g_iload_n F dX4_unbalanced_4 2 rfl rfl ?_
    refine g_aload_n F dX4_unbalanced_5 0 rfl rfl ?_
    refine gf_X4_9_X4 (v := .ref (L 0)) F dX4_unbalanced_6 mO_o rfl ?_
    refine g_iconst (v := 1) F dX4_unbalanced_9 rfl ?_
    refine g_ialdN (i := 1) F (mO_0 hN) (rfl : (1 : Int32) = nI 1) (show 1 = 1 by omega) (by omega) (by decide) dX4_unbalanced_10 ?_
    refine g_eqs (st' := [.int (nI nb), .int (nI k)]) (by rw [h1]) ?_
    refine g_icmp_ge (tgt := 42) F dX4_unbalanced_11 (by decide) (fun c1 => ?_) (fun c1 => ?_)
    · have hkN : k = nb := gexit (by omega) hk c1
      subst hkN
      refine g_iload_n F dX4_unbalanced_42 1 rfl rfl ?_
      exact g_iret F dX4_unbalanced_43 (⟨rfl, rfl⟩)
    · have hlt : k < nb := gbody (by omega) hk c1
      refine g_iload_n F dX4_unbalanced_14 1 rfl rfl ?_
      refine g_aload_n F dX4_unbalanced_15 0 rfl rfl ?_
      refine g_iload_n F dX4_unbalanced_16 2 rfl rfl ?_
      refine g_callV F dX4_unbalanced_17 mi_X4_off q2389 q2391 qs34 gc_X4 mO_o (ct_X4_off hN (i := k) h2 hc (by omega)) rfl rfl (nle rfl) (nle rfl) (nle rfl) (g_pur ?_) g_purX
      refine g_aload_n F dX4_unbalanced_20 0 rfl rfl ?_
      refine gf_X4_9_X4 (v := .ref (L 0)) F dX4_unbalanced_21 mO_o rfl ?_
      refine g_iconst (v := 5) F dX4_unbalanced_24 rfl ?_
      refine g_ialdN (i := 5) F (mO_0 hN) (rfl : (5 : Int32) = nI 5) (show 5 = 5 by omega) (by omega) (by decide) dX4_unbalanced_25 ?_
      refine g_icmp_le (tgt := 33) F dX4_unbalanced_26 (by decide) (fun c2 => ?_) (fun c2 => ?_)
      · refine g_iconst (v := 0) F dX4_unbalanced_33 rfl ?_
        refine g_iadd F dX4_unbalanced_34 ?_
        refine g_istore_n (lv' := [(1, .int ((mSum (fun k => if av 0 5 < mOff (av 0) nc k (nI k) then 1 else 0) k) + 0)), (0, .ref o), (2, .int (nI k))]) F dX4_unbalanced_35 rfl (by decide) rfl ?_
        refine g_iinc (lv' := [(2, .int ((nI k) + 1)), (1, .int ((mSum (fun k => if av 0 5 < mOff (av 0) nc k (nI k) then 1 else 0) k) + 0)), (0, .ref o)]) (v := (nI k) + 1) F dX4_unbalanced_36 (k := 2) rfl rfl (by decide) rfl ?_
        refine g_goto (tgt := 4) F dX4_unbalanced_39 (by decide) ?_
        refine g_lv (lv' := [(0, .ref o), (1, .int ((mSum (fun k => if av 0 5 < mOff (av 0) nc k (nI k) then 1 else 0) k) + 0)), (2, .int ((nI k) + 1))]) [2, 1, 0] rfl ?_
        exact g_eql (lv' := [(0, .ref o), (1, .int (mSum (fun k => if av 0 5 < mOff (av 0) nc k (nI k) then 1 else 0) (k + 1))), (2, .int (nI (k + 1)))]) (by simp only [nI_1, mSum_s]; grind) (ih hlt)
      · refine g_iconst (v := 1) F dX4_unbalanced_29 rfl ?_
        refine g_goto (tgt := 34) F dX4_unbalanced_30 (by decide) ?_
        refine g_iadd F dX4_unbalanced_34 ?_
        refine g_istore_n (lv' := [(1, .int ((mSum (fun k => if av 0 5 < mOff (av 0) nc k (nI k) then 1 else 0) k) + 1)), (0, .ref o), (2, .int (nI k))]) F dX4_unbalanced_35 rfl (by decide) rfl ?_
        refine g_iinc (lv' := [(2, .int ((nI k) + 1)), (1, .int ((mSum (fun k => if av 0 5 < mOff (av 0) nc k (nI k) then 1 else 0) k) + 1)), (0, .ref o)]) (v := (nI k) + 1) F dX4_unbalanced_36 (k := 2) rfl rfl (by decide) rfl ?_
        refine g_goto (tgt := 4) F dX4_unbalanced_39 (by decide) ?_
        refine g_lv (lv' := [(0, .ref o), (1, .int ((mSum (fun k => if av 0 5 < mOff (av 0) nc k (nI k) then 1 else 0) k) + 1)), (2, .int ((nI k) + 1))]) [2, 1, 0] rfl ?_
        exact g_eql (lv' := [(0, .ref o), (1, .int (mSum (fun k => if av 0 5 < mOff (av 0) nc k (nI k) then 1 else 0) (k + 1))), (2, .int (nI (k + 1)))]) (by simp only [nI_1, mSum_s]; grind) (ih hlt)
  exact lp 0 (Nat.zero_le _)
set_option maxHeartbeats 4000000 in
set_option maxRecDepth 100000 in
theorem ct_X4_barOf {K : gK} {h : AH} {o : Nat} {L : Nat → Nat} {iv : Nat → Int32} {av : Nat → Nat → Int32} (hN : mN K o L) {x y : Int32} {nb nc nh nq : Nat} (hC : mC (av 0) nb nc nh nq) (hL : mL (av 0) nb nc nq) : gCt K yX4_barOf w_X4_barOf 3 65 0 0 (mO K h o L iv av) [.ref o, .int x, .int y] (pR (.int (qV (qBarOf (av 0) nb nc x y))) (mO K h o L (upd iv 7 (qP (qBarOf (av 0) nb nc x y))) av)) := by
  refine g_meth pf_X4_barOf (nle rfl) (fun p e s m args below meth c F hnm htb => ?_)
  have F : gFix K p s m args meth c cX4_barOf 3 RX4 (some .int) := F
  refine g_eql (lv' := [(0, .ref o), (1, .int x), (2, .int y)]) rfl ?_
  obtain ⟨h1, hb, h2, hc, h3, hh, h4, hq⟩ := hC
  refine g_aload_n F dX4_barOf_0 0 rfl rfl ?_
  refine g_aload_n F dX4_barOf_1 0 rfl rfl ?_
  refine g_iload_n F dX4_barOf_2 1 rfl rfl ?_
  refine g_callV F dX4_barOf_3 mi_X4_isBar q2369 q2371 qs29 gc_X4 mO_o (ct_X4_isBar hN h1) rfl rfl (nle rfl) (nle rfl) (nle rfl) (g_pur ?_) g_purX
  refine g_if_ne (tgt := 13) F dX4_barOf_6 (by decide) (fun c1 => ?_) (fun c1 => ?_)
  · obtain ⟨i, hi, rfl⟩ := xAt_i (by omega) c1
    refine g_iload_n F dX4_barOf_13 2 rfl rfl ?_
    refine g_iconst (v := 0) F dX4_barOf_14 rfl ?_
    refine g_bipush (v := 8) F dX4_barOf_15 rfl ?_
    refine g_callS F dX4_barOf_17 mi_X4_in q2346 q2347 ct_X4_in rfl rfl (nle rfl) (nle rfl) (nle rfl) (g_pur ?_) g_purX
    refine g_if_ne (tgt := 27) F dX4_barOf_20 (by decide) (fun c2 => ?_) (fun c2 => ?_)
    · obtain ⟨j, hj, rfl⟩ := xAt_i (n := 9) (by omega) c2
      refine g_iconst (v := 0) F dX4_barOf_27 rfl ?_
      refine gp_X4_69_X4 F dX4_barOf_28 mO_o hN.1 (nle rfl) rfl (fun h_e3 e3 => ?_)
      refine g_mput (iv2 := upd iv 7 0) e3 rfl ?_
      refine g_aload_n F dX4_barOf_31 0 rfl rfl ?_
      refine gf_X4_69_X4 (v := .int 0) F dX4_barOf_32 mO_o rfl ?_
      refine g_if_le (tgt := 40) F dX4_barOf_35 (by decide) (fun c4 => ?_) (fun c4 => absurd c4 (by decide))
      have hjo : j = 0 ∨ j = 1 ∨ j = 2 ∨ j = 3 ∨ j = 4 ∨ j = 5 ∨ j = 6 ∨ j = 7 ∨ j = 8 := by omega
      rcases hjo with rfl | rfl | rfl | rfl | rfl | rfl | rfl | rfl | rfl
      · refine g_iload_n F dX4_barOf_40 2 rfl rfl ?_
        refine g_tableIn (off := 47) (tgt := 88) F dX4_barOf_41 (by decide) (by decide) rfl (by decide) ?_
        refine g_aload_n F dX4_barOf_88 0 rfl rfl ?_
        refine g_iload_n F dX4_barOf_89 1 rfl rfl ?_
        refine g_iconst (v := 0) F dX4_barOf_90 rfl ?_
        refine g_callV F dX4_barOf_91 mi_X4_bar1 q2373 q2375 qs30 gc_X4 mO_o (ct_X4_bar1 hN (i := 11 + 4 * i) (nto (nadd (nadd (rfl : (11 : Int32) = nI 11) (nmul (rfl : (4 : Int32) = nI 4) rfl)) (rfl : (0 : Int32) = nI 0)) (show ((11 + (4 * i)) + 0) = 11 + 4 * i by omega)) (by omega)) rfl rfl (nle rfl) (nle rfl) (nle rfl) (g_pur ?_) g_purX
        have hr : qBarOf (av 0) nb nc (nI i) (nI 0) = (.inl (av 0 (11 + 4 * i)) : xQ) := by (simp only [qBarOf, qIf, nI_clamp (show i < 2 ^ 31 by omega), nI_clamp (show 0 < 2 ^ 31 by decide), qBar1]; grind [mRem3])
        exact g_iret F dX4_barOf_94 (⟨by rw [hr]; rfl, by rw [hr]; rfl⟩)
      · refine g_iload_n F dX4_barOf_40 2 rfl rfl ?_
        refine g_tableIn (off := 54) (tgt := 95) F dX4_barOf_41 (by decide) (by decide) rfl (by decide) ?_
        refine g_aload_n F dX4_barOf_95 0 rfl rfl ?_
        refine g_iload_n F dX4_barOf_96 1 rfl rfl ?_
        refine g_callV F dX4_barOf_97 mi_X4_load q2377 q2379 qs31 gc_X4 mO_o (ct_X4_load hN h2 hc) rfl rfl (nle rfl) (nle rfl) (nle rfl) (g_pur ?_) g_purX
        have hr : qBarOf (av 0) nb nc (nI i) (nI 1) = (.inl (mLoad (av 0) nc (nI i)) : xQ) := by (simp only [qBarOf, qIf, nI_clamp (show i < 2 ^ 31 by omega), nI_clamp (show 1 < 2 ^ 31 by decide), qBar1]; grind [mRem3])
        exact g_iret F dX4_barOf_100 (⟨by rw [hr]; rfl, by rw [hr]; rfl⟩)
      · refine g_iload_n F dX4_barOf_40 2 rfl rfl ?_
        refine g_tableIn (off := 60) (tgt := 101) F dX4_barOf_41 (by decide) (by decide) rfl (by decide) ?_
        refine g_aload_n F dX4_barOf_101 0 rfl rfl ?_
        refine g_iload_n F dX4_barOf_102 1 rfl rfl ?_
        refine g_iconst (v := 1) F dX4_barOf_103 rfl ?_
        refine g_callV F dX4_barOf_104 mi_X4_bar1 q2373 q2375 qs30 gc_X4 mO_o (ct_X4_bar1 hN (i := 12 + 4 * i) (nto (nadd (nadd (rfl : (11 : Int32) = nI 11) (nmul (rfl : (4 : Int32) = nI 4) rfl)) (rfl : (1 : Int32) = nI 1)) (show ((11 + (4 * i)) + 1) = 12 + 4 * i by omega)) (by omega)) rfl rfl (nle rfl) (nle rfl) (nle rfl) (g_pur ?_) g_purX
        have hr : qBarOf (av 0) nb nc (nI i) (nI 2) = (.inl (av 0 (12 + 4 * i)) : xQ) := by (simp only [qBarOf, qIf, nI_clamp (show i < 2 ^ 31 by omega), nI_clamp (show 2 < 2 ^ 31 by decide), qBar1]; grind [mRem3])
        exact g_iret F dX4_barOf_107 (⟨by rw [hr]; rfl, by rw [hr]; rfl⟩)
      · refine g_iload_n F dX4_barOf_40 2 rfl rfl ?_
        refine g_tableIn (off := 67) (tgt := 108) F dX4_barOf_41 (by decide) (by decide) rfl (by decide) ?_
        refine g_aload_n F dX4_barOf_108 0 rfl rfl ?_
        refine g_iload_n F dX4_barOf_109 1 rfl rfl ?_
        refine g_callV F dX4_barOf_110 mi_X4_off q2389 q2391 qs34 gc_X4 mO_o (ct_X4_off hN (i := i) h2 hc (by omega)) rfl rfl (nle rfl) (nle rfl) (nle rfl) (g_pur ?_) g_purX
        have hr : qBarOf (av 0) nb nc (nI i) (nI 3) = (.inl (mOff (av 0) nc i (nI i)) : xQ) := by (simp only [qBarOf, qIf, nI_clamp (show i < 2 ^ 31 by omega), nI_clamp (show 3 < 2 ^ 31 by decide), qBar1]; grind [mRem3])
        exact g_iret F dX4_barOf_113 (⟨by rw [hr]; rfl, by rw [hr]; rfl⟩)
      · refine g_iload_n F dX4_barOf_40 2 rfl rfl ?_
        refine g_tableIn (off := 73) (tgt := 114) F dX4_barOf_41 (by decide) (by decide) rfl (by decide) ?_
        refine g_aload_n F dX4_barOf_114 0 rfl rfl ?_
        refine g_iload_n F dX4_barOf_115 1 rfl rfl ?_
        refine g_iconst (v := 2) F dX4_barOf_116 rfl ?_
        refine g_callV F dX4_barOf_117 mi_X4_bar1 q2373 q2375 qs30 gc_X4 mO_o (ct_X4_bar1 hN (i := 13 + 4 * i) (nto (nadd (nadd (rfl : (11 : Int32) = nI 11) (nmul (rfl : (4 : Int32) = nI 4) rfl)) (rfl : (2 : Int32) = nI 2)) (show ((11 + (4 * i)) + 2) = 13 + 4 * i by omega)) (by omega)) rfl rfl (nle rfl) (nle rfl) (nle rfl) (g_pur ?_) g_purX
        have hr : qBarOf (av 0) nb nc (nI i) (nI 4) = (.inl (av 0 (13 + 4 * i)) : xQ) := by (simp only [qBarOf, qIf, nI_clamp (show i < 2 ^ 31 by omega), nI_clamp (show 4 < 2 ^ 31 by decide), qBar1]; grind [mRem3])
        exact g_iret F dX4_barOf_120 (⟨by rw [hr]; rfl, by rw [hr]; rfl⟩)
      · refine g_iload_n F dX4_barOf_40 2 rfl rfl ?_
        refine g_tableIn (off := 80) (tgt := 121) F dX4_barOf_41 (by decide) (by decide) rfl (by decide) ?_
        refine g_aload_n F dX4_barOf_121 0 rfl rfl ?_
        refine g_iload_n F dX4_barOf_122 1 rfl rfl ?_
        refine g_callV F dX4_barOf_123 mi_X4_bears q2394 q2396 qs35 gc_X4 mO_o (ct_X4_bears hN (i := i) (by omega)) rfl rfl (nle rfl) (nle rfl) (nle rfl) (g_pur ?_) g_purX
        have hr : qBarOf (av 0) nb nc (nI i) (nI 5) = (.inl (mBears (av 0) i) : xQ) := by (simp only [qBarOf, qIf, nI_clamp (show i < 2 ^ 31 by omega), nI_clamp (show 5 < 2 ^ 31 by decide), qBar1]; grind [mRem3])
        exact g_iret F dX4_barOf_126 (⟨by rw [hr]; rfl, by rw [hr]; rfl⟩)
      · refine g_iload_n F dX4_barOf_40 2 rfl rfl ?_
        refine g_tableIn (off := 86) (tgt := 127) F dX4_barOf_41 (by decide) (by decide) rfl (by decide) ?_
        refine g_iload_n F dX4_barOf_127 1 rfl rfl ?_
        refine g_iconst (v := 3) F dX4_barOf_128 rfl ?_
        refine g_irem F dX4_barOf_129 (by decide) ?_
        have hr : qBarOf (av 0) nb nc (nI i) (nI 6) = (.inl ((nI i) - (nI i) / 3 * 3) : xQ) := by (simp only [qBarOf, qIf, nI_clamp (show i < 2 ^ 31 by omega), nI_clamp (show 6 < 2 ^ 31 by decide), qBar1]; grind [mRem3])
        exact g_iret F dX4_barOf_130 (⟨by rw [hr]; rfl, by rw [hr]; rfl⟩)
      · refine g_iload_n F dX4_barOf_40 2 rfl rfl ?_
        refine g_tableIn (off := 90) (tgt := 131) F dX4_barOf_41 (by decide) (by decide) rfl (by decide) ?_
        refine g_aload_n F dX4_barOf_131 0 rfl rfl ?_
        refine g_iload_n F dX4_barOf_132 1 rfl rfl ?_
        refine g_callV F dX4_barOf_133 mi_X4_curtainsOn q2399 q2401 qs36 gc_X4 mO_o (ct_X4_curtainsOn hN h2 hc) rfl rfl (nle rfl) (nle rfl) (nle rfl) (g_pur ?_) g_purX
        have hr : qBarOf (av 0) nb nc (nI i) (nI 7) = (.inl (mCnt (av 0) nc (nI i)) : xQ) := by (simp only [qBarOf, qIf, nI_clamp (show i < 2 ^ 31 by omega), nI_clamp (show 7 < 2 ^ 31 by decide), qBar1]; grind [mRem3])
        exact g_iret F dX4_barOf_136 (⟨by rw [hr]; rfl, by rw [hr]; rfl⟩)
      · refine g_iload_n F dX4_barOf_40 2 rfl rfl ?_
        refine g_tableOut (tgt := 137) F dX4_barOf_41 (by decide) (by decide) ?_
        refine g_aload_n F dX4_barOf_137 0 rfl rfl ?_
        refine g_iload_n F dX4_barOf_138 1 rfl rfl ?_
        refine g_iconst (v := 3) F dX4_barOf_139 rfl ?_
        refine g_callV F dX4_barOf_140 mi_X4_bar1 q2373 q2375 qs30 gc_X4 mO_o (ct_X4_bar1 hN (i := 14 + 4 * i) (nto (nadd (nadd (rfl : (11 : Int32) = nI 11) (nmul (rfl : (4 : Int32) = nI 4) rfl)) (rfl : (3 : Int32) = nI 3)) (show ((11 + (4 * i)) + 3) = 14 + 4 * i by omega)) (by omega)) rfl rfl (nle rfl) (nle rfl) (nle rfl) (g_pur ?_) g_purX
        have hr : qBarOf (av 0) nb nc (nI i) (nI 8) = (.inl (av 0 (14 + 4 * i)) : xQ) := by (simp only [qBarOf, qIf, nI_clamp (show i < 2 ^ 31 by omega), nI_clamp (show 8 < 2 ^ 31 by decide), qBar1]; grind [mRem3])
        exact g_iret F dX4_barOf_143 (⟨by rw [hr]; rfl, by rw [hr]; rfl⟩)
    · refine g_iconst (v := 2) F dX4_barOf_23 rfl ?_
      refine g_goto (tgt := 28) F dX4_barOf_24 (by decide) ?_
      refine gp_X4_69_X4 F dX4_barOf_28 mO_o hN.1 (nle rfl) rfl (fun h_e5 e5 => ?_)
      refine g_mput (iv2 := upd iv 7 2) e5 rfl ?_
      refine g_aload_n F dX4_barOf_31 0 rfl rfl ?_
      refine gf_X4_69_X4 (v := .int 2) F dX4_barOf_32 mO_o rfl ?_
      refine g_if_le (tgt := 40) F dX4_barOf_35 (by decide) (fun c6 => absurd c6 (by decide)) (fun c6 => ?_)
      refine g_iconst (v := 0) F dX4_barOf_38 rfl ?_
      have hr : qBarOf (av 0) nb nc (nI i) y = (.inr 2 : xQ) := by grind [qIf, qBarOf, nI_clamp]
      exact g_iret F dX4_barOf_39 (⟨by rw [hr]; rfl, by rw [hr]; rfl⟩)
  · refine g_iconst (v := 1) F dX4_barOf_9 rfl ?_
    refine g_goto (tgt := 28) F dX4_barOf_10 (by decide) ?_
    refine gp_X4_69_X4 F dX4_barOf_28 mO_o hN.1 (nle rfl) rfl (fun h_e7 e7 => ?_)
    refine g_mput (iv2 := upd iv 7 1) e7 rfl ?_
    refine g_aload_n F dX4_barOf_31 0 rfl rfl ?_
    refine gf_X4_69_X4 (v := .int 1) F dX4_barOf_32 mO_o rfl ?_
    refine g_if_le (tgt := 40) F dX4_barOf_35 (by decide) (fun c8 => absurd c8 (by decide)) (fun c8 => ?_)
    refine g_iconst (v := 0) F dX4_barOf_38 rfl ?_
    have hr : qBarOf (av 0) nb nc x y = (.inr 1 : xQ) := by grind [qIf, qBarOf, nI_clamp]
    exact g_iret F dX4_barOf_39 (⟨by rw [hr]; rfl, by rw [hr]; rfl⟩)
set_option maxHeartbeats 4000000 in
set_option maxRecDepth 100000 in
theorem ct_X4_account {K : gK} {h : AH} {o : Nat} {L : Nat → Nat} {iv : Nat → Int32} {av : Nat → Nat → Int32} (hN : mN K o L) {x : Int32} {nb nc nh nq : Nat} (hC : mC (av 0) nb nc nh nq) (hL : mL (av 0) nb nc nq) : gCt K yX4_account w_X4_account 4 87 0 0 (mO K h o L iv av) [.ref o, .int x] (pR (.int (qV (qAcc (av 0) nb nc (iv 14) (iv 6) x))) (mO K h o L (upd iv 7 (qP (qAcc (av 0) nb nc (iv 14) (iv 6) x))) av)) := by
  refine g_meth pf_X4_account (nle rfl) (fun p e s m args below meth c F hnm htb => ?_)
  have F : gFix K p s m args meth c cX4_account 2 RX4 (some .int) := F
  refine g_eql (lv' := [(0, .ref o), (1, .int x)]) rfl ?_
  obtain ⟨h1, hb, h2, hc, h3, hh, h4, hq⟩ := hC
  refine g_aload_n F dX4_account_0 0 rfl rfl ?_
  refine g_iload_n F dX4_account_1 1 rfl rfl ?_
  refine g_iconst (v := 0) F dX4_account_2 rfl ?_
  refine g_bipush (v := 17) F dX4_account_3 rfl ?_
  refine g_callS F dX4_account_5 mi_X4_in q2346 q2347 ct_X4_in rfl rfl (nle rfl) (nle rfl) (nle rfl) (g_pur ?_) g_purX
  refine g_if_eq (tgt := 15) F dX4_account_8 (by decide) (fun c1 => ?_) (fun c1 => ?_)
  · refine g_iconst (v := 1) F dX4_account_15 rfl ?_
    refine gp_X4_69_X4 F dX4_account_16 mO_o hN.1 (nle rfl) rfl (fun h_e2 e2 => ?_)
    refine g_mput (iv2 := upd iv 7 1) e2 rfl ?_
    refine g_aload_n F dX4_account_19 0 rfl rfl ?_
    refine gf_X4_69_X4 (v := .int 1) F dX4_account_20 mO_o rfl ?_
    refine g_if_le (tgt := 28) F dX4_account_23 (by decide) (fun c3 => absurd c3 (by decide)) (fun c3 => ?_)
    refine g_iconst (v := 0) F dX4_account_26 rfl ?_
    have hr : qAcc (av 0) nb nc (iv 14) (iv 6) x = (.inr 1 : xQ) := by grind [qIf, qAcc]
    exact g_iret F dX4_account_27 (⟨by rw [hr]; rfl, by rw [hr]; rfl⟩)
  · obtain ⟨j, hj, rfl⟩ := xAt_i (n := 18) (by omega) c1
    refine g_iconst (v := 0) F dX4_account_11 rfl ?_
    refine g_goto (tgt := 16) F dX4_account_12 (by decide) ?_
    refine gp_X4_69_X4 F dX4_account_16 mO_o hN.1 (nle rfl) rfl (fun h_e4 e4 => ?_)
    refine g_mput (iv2 := upd iv 7 0) e4 rfl ?_
    refine g_aload_n F dX4_account_19 0 rfl rfl ?_
    refine gf_X4_69_X4 (v := .int 0) F dX4_account_20 mO_o rfl ?_
    refine g_if_le (tgt := 28) F dX4_account_23 (by decide) (fun c5 => ?_) (fun c5 => absurd c5 (by decide))
    have hjo : j = 0 ∨ j = 1 ∨ j = 2 ∨ j = 3 ∨ j = 4 ∨ j = 5 ∨ j = 6 ∨ j = 7 ∨ j = 8 ∨ j = 9 ∨ j = 10 ∨ j = 11 ∨ j = 12 ∨ j = 13 ∨ j = 14 ∨ j = 15 ∨ j = 16 ∨ j = 17 := by omega
    rcases hjo with rfl | rfl | rfl | rfl | rfl | rfl | rfl | rfl | rfl | rfl | rfl | rfl | rfl | rfl | rfl | rfl | rfl | rfl
    · refine g_iload_n F dX4_account_28 1 rfl rfl ?_
      refine g_tableIn (off := 83) (tgt := 112) F dX4_account_29 (by decide) (by decide) rfl (by decide) ?_
      refine g_aload_n F dX4_account_112 0 rfl rfl ?_
      refine gf_X4_9_X4 (v := .ref (L 0)) F dX4_account_113 mO_o rfl ?_
      refine g_iload_n F dX4_account_116 1 rfl rfl ?_
      refine g_ialdN (i := 0) F (mO_0 hN) (rfl : nI 0 = nI 0) (show 0 = 0 by omega) (by omega) (by decide) dX4_account_117 ?_
      have hr : qAcc (av 0) nb nc (iv 14) (iv 6) (nI 0) = (.inl (av 0 0) : xQ) := by (simp only [qAcc, qIf, nI_clamp (show 0 < 2 ^ 31 by decide), qAcc1]; grind)
      exact g_iret F dX4_account_118 (⟨by rw [hr]; rfl, by rw [hr]; rfl⟩)
    · refine g_iload_n F dX4_account_28 1 rfl rfl ?_
      refine g_tableIn (off := 83) (tgt := 112) F dX4_account_29 (by decide) (by decide) rfl (by decide) ?_
      refine g_aload_n F dX4_account_112 0 rfl rfl ?_
      refine gf_X4_9_X4 (v := .ref (L 0)) F dX4_account_113 mO_o rfl ?_
      refine g_iload_n F dX4_account_116 1 rfl rfl ?_
      refine g_ialdN (i := 1) F (mO_0 hN) (rfl : nI 1 = nI 1) (show 1 = 1 by omega) (by omega) (by decide) dX4_account_117 ?_
      have hr : qAcc (av 0) nb nc (iv 14) (iv 6) (nI 1) = (.inl (av 0 1) : xQ) := by (simp only [qAcc, qIf, nI_clamp (show 1 < 2 ^ 31 by decide), qAcc1]; grind)
      exact g_iret F dX4_account_118 (⟨by rw [hr]; rfl, by rw [hr]; rfl⟩)
    · refine g_iload_n F dX4_account_28 1 rfl rfl ?_
      refine g_tableIn (off := 83) (tgt := 112) F dX4_account_29 (by decide) (by decide) rfl (by decide) ?_
      refine g_aload_n F dX4_account_112 0 rfl rfl ?_
      refine gf_X4_9_X4 (v := .ref (L 0)) F dX4_account_113 mO_o rfl ?_
      refine g_iload_n F dX4_account_116 1 rfl rfl ?_
      refine g_ialdN (i := 2) F (mO_0 hN) (rfl : nI 2 = nI 2) (show 2 = 2 by omega) (by omega) (by decide) dX4_account_117 ?_
      have hr : qAcc (av 0) nb nc (iv 14) (iv 6) (nI 2) = (.inl (av 0 2) : xQ) := by (simp only [qAcc, qIf, nI_clamp (show 2 < 2 ^ 31 by decide), qAcc1]; grind)
      exact g_iret F dX4_account_118 (⟨by rw [hr]; rfl, by rw [hr]; rfl⟩)
    · refine g_iload_n F dX4_account_28 1 rfl rfl ?_
      refine g_tableIn (off := 90) (tgt := 119) F dX4_account_29 (by decide) (by decide) rfl (by decide) ?_
      refine g_aload_n F dX4_account_119 0 rfl rfl ?_
      refine g_iload_n F dX4_account_120 1 rfl rfl ?_
      refine g_iconst (v := 4) F dX4_account_121 rfl ?_
      refine g_icmp_ne (tgt := 129) F dX4_account_122 (by decide) (fun c6 => ?_) (fun c6 => absurd c6 (by decide))
      refine g_iconst (v := 0) F dX4_account_129 rfl ?_
      refine g_callV F dX4_account_130 mi_X4_hanging q2613 q2615 qs59 gc_X4 mO_o (ct_X4_hanging hN h2 hc) rfl rfl (nle rfl) (nle rfl) (nle rfl) (g_pur ?_) g_purX
      have hr : qAcc (av 0) nb nc (iv 14) (iv 6) (nI 3) = (.inl (mHang (av 0) 0 nc) : xQ) := by (simp only [qAcc, qIf, nI_clamp (show 3 < 2 ^ 31 by decide), qAcc1]; grind)
      exact g_iret F dX4_account_133 (⟨by rw [hr]; rfl, by rw [hr]; rfl⟩)
    · refine g_iload_n F dX4_account_28 1 rfl rfl ?_
      refine g_tableIn (off := 90) (tgt := 119) F dX4_account_29 (by decide) (by decide) rfl (by decide) ?_
      refine g_aload_n F dX4_account_119 0 rfl rfl ?_
      refine g_iload_n F dX4_account_120 1 rfl rfl ?_
      refine g_iconst (v := 4) F dX4_account_121 rfl ?_
      refine g_icmp_ne (tgt := 129) F dX4_account_122 (by decide) (fun c7 => absurd c7 (by decide)) (fun c7 => ?_)
      refine g_iconst (v := 1) F dX4_account_125 rfl ?_
      refine g_goto (tgt := 130) F dX4_account_126 (by decide) ?_
      refine g_callV F dX4_account_130 mi_X4_hanging q2613 q2615 qs59 gc_X4 mO_o (ct_X4_hanging hN h2 hc) rfl rfl (nle rfl) (nle rfl) (nle rfl) (g_pur ?_) g_purX
      have hr : qAcc (av 0) nb nc (iv 14) (iv 6) (nI 4) = (.inl (mHang (av 0) 1 nc) : xQ) := by (simp only [qAcc, qIf, nI_clamp (show 4 < 2 ^ 31 by decide), qAcc1]; grind)
      exact g_iret F dX4_account_133 (⟨by rw [hr]; rfl, by rw [hr]; rfl⟩)
    · refine g_iload_n F dX4_account_28 1 rfl rfl ?_
      refine g_tableIn (off := 105) (tgt := 134) F dX4_account_29 (by decide) (by decide) rfl (by decide) ?_
      refine g_bipush (v := 60) F dX4_account_134 rfl ?_
      refine g_aload_n F dX4_account_136 0 rfl rfl ?_
      refine g_callV F dX4_account_137 mi_X4_onBars q2463 q2465 qs44 gc_X4 mO_o (ct_X4_onBars hN h1 hb) rfl rfl (nle rfl) (nle rfl) (nle rfl) (g_pur ?_) g_purX
      refine g_isub F dX4_account_140 ?_
      have hr : qAcc (av 0) nb nc (iv 14) (iv 6) (nI 5) = (.inl (60 - (mOn (av 0) nb)) : xQ) := by (simp only [qAcc, qIf, nI_clamp (show 5 < 2 ^ 31 by decide), qAcc1]; grind)
      exact g_iret F dX4_account_141 (⟨by rw [hr]; rfl, by rw [hr]; rfl⟩)
    · refine g_iload_n F dX4_account_28 1 rfl rfl ?_
      refine g_tableIn (off := 113) (tgt := 142) F dX4_account_29 (by decide) (by decide) rfl (by decide) ?_
      refine g_aload_n F dX4_account_142 0 rfl rfl ?_
      refine g_callV F dX4_account_143 mi_X4_onBars q2463 q2465 qs44 gc_X4 mO_o (ct_X4_onBars hN h1 hb) rfl rfl (nle rfl) (nle rfl) (nle rfl) (g_pur ?_) g_purX
      have hr : qAcc (av 0) nb nc (iv 14) (iv 6) (nI 6) = (.inl (mOn (av 0) nb) : xQ) := by (simp only [qAcc, qIf, nI_clamp (show 6 < 2 ^ 31 by decide), qAcc1]; grind)
      exact g_iret F dX4_account_146 (⟨by rw [hr]; rfl, by rw [hr]; rfl⟩)
    · refine g_iload_n F dX4_account_28 1 rfl rfl ?_
      refine g_tableIn (off := 118) (tgt := 147) F dX4_account_29 (by decide) (by decide) rfl (by decide) ?_
      refine g_aload_n F dX4_account_147 0 rfl rfl ?_
      refine gf_X4_9_X4 (v := .ref (L 0)) F dX4_account_148 mO_o rfl ?_
      refine g_iconst (v := 3) F dX4_account_151 rfl ?_
      refine g_ialdN (i := 3) F (mO_0 hN) (rfl : (3 : Int32) = nI 3) (show 3 = 3 by omega) (by omega) (by decide) dX4_account_152 ?_
      have hr : qAcc (av 0) nb nc (iv 14) (iv 6) (nI 7) = (.inl (av 0 3) : xQ) := by (simp only [qAcc, qIf, nI_clamp (show 7 < 2 ^ 31 by decide), qAcc1]; grind)
      exact g_iret F dX4_account_153 (⟨by rw [hr]; rfl, by rw [hr]; rfl⟩)
    · refine g_iload_n F dX4_account_28 1 rfl rfl ?_
      refine g_tableIn (off := 125) (tgt := 154) F dX4_account_29 (by decide) (by decide) rfl (by decide) ?_
      refine g_aload_n F dX4_account_154 0 rfl rfl ?_
      refine g_callV F dX4_account_155 mi_X4_openDoors q2508 q2510 qs48 gc_X4 mO_o (ct_X4_openDoors hN) rfl rfl (nle rfl) (nle rfl) (nle rfl) (g_pur ?_) g_purX
      have hr : qAcc (av 0) nb nc (iv 14) (iv 6) (nI 8) = (.inl (mDoors (av 0)) : xQ) := by (simp only [qAcc, qIf, nI_clamp (show 8 < 2 ^ 31 by decide), qAcc1]; grind)
      exact g_iret F dX4_account_158 (⟨by rw [hr]; rfl, by rw [hr]; rfl⟩)
    · refine g_iload_n F dX4_account_28 1 rfl rfl ?_
      refine g_tableIn (off := 130) (tgt := 159) F dX4_account_29 (by decide) (by decide) rfl (by decide) ?_
      refine g_aload_n F dX4_account_159 0 rfl rfl ?_
      refine gf_X4_9_X4 (v := .ref (L 0)) F dX4_account_160 mO_o rfl ?_
      refine g_iconst (v := 4) F dX4_account_163 rfl ?_
      refine g_ialdN (i := 4) F (mO_0 hN) (rfl : (4 : Int32) = nI 4) (show 4 = 4 by omega) (by omega) (by decide) dX4_account_164 ?_
      have hr : qAcc (av 0) nb nc (iv 14) (iv 6) (nI 9) = (.inl (av 0 4) : xQ) := by (simp only [qAcc, qIf, nI_clamp (show 9 < 2 ^ 31 by decide), qAcc1]; grind)
      exact g_iret F dX4_account_165 (⟨by rw [hr]; rfl, by rw [hr]; rfl⟩)
    · refine g_iload_n F dX4_account_28 1 rfl rfl ?_
      refine g_tableIn (off := 137) (tgt := 166) F dX4_account_29 (by decide) (by decide) rfl (by decide) ?_
      refine g_aload_n F dX4_account_166 0 rfl rfl ?_
      refine gf_X4_9_X4 (v := .ref (L 0)) F dX4_account_167 mO_o rfl ?_
      refine g_bipush (v := 8) F dX4_account_170 rfl ?_
      refine g_iload_n F dX4_account_172 1 rfl rfl ?_
      refine g_iadd F dX4_account_173 ?_
      refine g_bipush (v := 10) F dX4_account_174 rfl ?_
      refine g_isub F dX4_account_176 ?_
      refine g_ialdN (i := 8) F (mO_0 hN) (show (8 + nI 10 - 10 : Int32) = nI 8 from by decide) rfl (by decide) (by decide) dX4_account_177 ?_
      have hr : qAcc (av 0) nb nc (iv 14) (iv 6) (nI 10) = (.inl (av 0 8) : xQ) := by (simp only [qAcc, qIf, nI_clamp (show 10 < 2 ^ 31 by decide), qAcc1]; grind)
      exact g_iret F dX4_account_178 (⟨by rw [hr]; rfl, by rw [hr]; rfl⟩)
    · refine g_iload_n F dX4_account_28 1 rfl rfl ?_
      refine g_tableIn (off := 137) (tgt := 166) F dX4_account_29 (by decide) (by decide) rfl (by decide) ?_
      refine g_aload_n F dX4_account_166 0 rfl rfl ?_
      refine gf_X4_9_X4 (v := .ref (L 0)) F dX4_account_167 mO_o rfl ?_
      refine g_bipush (v := 8) F dX4_account_170 rfl ?_
      refine g_iload_n F dX4_account_172 1 rfl rfl ?_
      refine g_iadd F dX4_account_173 ?_
      refine g_bipush (v := 10) F dX4_account_174 rfl ?_
      refine g_isub F dX4_account_176 ?_
      refine g_ialdN (i := 9) F (mO_0 hN) (show (8 + nI 11 - 10 : Int32) = nI 9 from by decide) rfl (by decide) (by decide) dX4_account_177 ?_
      have hr : qAcc (av 0) nb nc (iv 14) (iv 6) (nI 11) = (.inl (av 0 9) : xQ) := by (simp only [qAcc, qIf, nI_clamp (show 11 < 2 ^ 31 by decide), qAcc1]; grind)
      exact g_iret F dX4_account_178 (⟨by rw [hr]; rfl, by rw [hr]; rfl⟩)
    · refine g_iload_n F dX4_account_28 1 rfl rfl ?_
      refine g_tableIn (off := 137) (tgt := 166) F dX4_account_29 (by decide) (by decide) rfl (by decide) ?_
      refine g_aload_n F dX4_account_166 0 rfl rfl ?_
      refine gf_X4_9_X4 (v := .ref (L 0)) F dX4_account_167 mO_o rfl ?_
      refine g_bipush (v := 8) F dX4_account_170 rfl ?_
      refine g_iload_n F dX4_account_172 1 rfl rfl ?_
      refine g_iadd F dX4_account_173 ?_
      refine g_bipush (v := 10) F dX4_account_174 rfl ?_
      refine g_isub F dX4_account_176 ?_
      refine g_ialdN (i := 10) F (mO_0 hN) (show (8 + nI 12 - 10 : Int32) = nI 10 from by decide) rfl (by decide) (by decide) dX4_account_177 ?_
      have hr : qAcc (av 0) nb nc (iv 14) (iv 6) (nI 12) = (.inl (av 0 10) : xQ) := by (simp only [qAcc, qIf, nI_clamp (show 12 < 2 ^ 31 by decide), qAcc1]; grind)
      exact g_iret F dX4_account_178 (⟨by rw [hr]; rfl, by rw [hr]; rfl⟩)
    · refine g_iload_n F dX4_account_28 1 rfl rfl ?_
      refine g_tableIn (off := 150) (tgt := 179) F dX4_account_29 (by decide) (by decide) rfl (by decide) ?_
      refine g_aload_n F dX4_account_179 0 rfl rfl ?_
      refine gf_X4_9_X4 (v := .ref (L 0)) F dX4_account_180 mO_o rfl ?_
      refine g_bipush (v := 6) F dX4_account_183 rfl ?_
      refine g_ialdN (i := 6) F (mO_0 hN) (rfl : (6 : Int32) = nI 6) (show 6 = 6 by omega) (by omega) (by decide) dX4_account_185 ?_
      have hr : qAcc (av 0) nb nc (iv 14) (iv 6) (nI 13) = (.inl (av 0 6) : xQ) := by (simp only [qAcc, qIf, nI_clamp (show 13 < 2 ^ 31 by decide), qAcc1]; grind)
      exact g_iret F dX4_account_186 (⟨by rw [hr]; rfl, by rw [hr]; rfl⟩)
    · refine g_iload_n F dX4_account_28 1 rfl rfl ?_
      refine g_tableIn (off := 158) (tgt := 187) F dX4_account_29 (by decide) (by decide) rfl (by decide) ?_
      refine g_aload_n F dX4_account_187 0 rfl rfl ?_
      refine g_callV F dX4_account_188 mi_X4_unbalanced q2617 q2619 qs60 gc_X4 mO_o (ct_X4_unbalanced hN h1 hb h2 hc) rfl rfl (nle rfl) (nle rfl) (nle rfl) (g_pur ?_) g_purX
      have hr : qAcc (av 0) nb nc (iv 14) (iv 6) (nI 14) = (.inl (mUnb (av 0) nc nb) : xQ) := by (simp only [qAcc, qIf, nI_clamp (show 14 < 2 ^ 31 by decide), qAcc1]; grind)
      exact g_iret F dX4_account_191 (⟨by rw [hr]; rfl, by rw [hr]; rfl⟩)
    · refine g_iload_n F dX4_account_28 1 rfl rfl ?_
      refine g_tableIn (off := 163) (tgt := 192) F dX4_account_29 (by decide) (by decide) rfl (by decide) ?_
      refine g_aload_n F dX4_account_192 0 rfl rfl ?_
      refine gf_X4_9_X4 (v := .ref (L 0)) F dX4_account_193 mO_o rfl ?_
      refine g_iconst (v := 5) F dX4_account_196 rfl ?_
      refine g_ialdN (i := 5) F (mO_0 hN) (rfl : (5 : Int32) = nI 5) (show 5 = 5 by omega) (by omega) (by decide) dX4_account_197 ?_
      have hr : qAcc (av 0) nb nc (iv 14) (iv 6) (nI 15) = (.inl (av 0 5) : xQ) := by (simp only [qAcc, qIf, nI_clamp (show 15 < 2 ^ 31 by decide), qAcc1]; grind)
      exact g_iret F dX4_account_198 (⟨by rw [hr]; rfl, by rw [hr]; rfl⟩)
    · refine g_iload_n F dX4_account_28 1 rfl rfl ?_
      refine g_tableIn (off := 170) (tgt := 199) F dX4_account_29 (by decide) (by decide) rfl (by decide) ?_
      refine g_aload_n F dX4_account_199 0 rfl rfl ?_
      refine gf_X4_253_X4 (v := .int (iv 14)) F dX4_account_200 mO_o rfl ?_
      have hr : qAcc (av 0) nb nc (iv 14) (iv 6) (nI 16) = (.inl (iv 14) : xQ) := by (simp only [qAcc, qIf, nI_clamp (show 16 < 2 ^ 31 by decide), qAcc1]; grind)
      exact g_iret F dX4_account_203 (⟨by rw [hr]; rfl, by rw [hr]; rfl⟩)
    · refine g_iload_n F dX4_account_28 1 rfl rfl ?_
      refine g_tableOut (tgt := 204) F dX4_account_29 (by decide) (by decide) ?_
      refine g_aload_n F dX4_account_204 0 rfl rfl ?_
      refine gf_X4_78_X4 (v := .int (iv 6)) F dX4_account_205 mO_o rfl ?_
      have hr : qAcc (av 0) nb nc (iv 14) (iv 6) (nI 17) = (.inl (iv 6) : xQ) := by (simp only [qAcc, qIf, nI_clamp (show 17 < 2 ^ 31 by decide), qAcc1]; grind)
      exact g_iret F dX4_account_208 (⟨by rw [hr]; rfl, by rw [hr]; rfl⟩)
