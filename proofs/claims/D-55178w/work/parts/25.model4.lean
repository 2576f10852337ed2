/-! ===== THE REFERENCE: searches, copies (written by tools/model4.py) ===== -/
set_option maxHeartbeats 4000000 in
set_option maxRecDepth 100000 in
theorem ct_X4_curtainOn {K : gK} {h : AH} {o : Nat} {L : Nat → Nat} {iv : Nat → Int32} {av : Nat → Nat → Int32} (hN : mN K o L) {x y : Int32} {nb nc nh nq : Nat} (hC : mC (av 0) nb nc nh nq) (hL : mL (av 0) nb nc nq) : gCt K yX4_curtainOn w_X4_curtainOn 2 43 0 0 (mO K h o L iv av) [.ref o, .int x, .int y] (pR (.int (qV (qOn (av 0) nb nc x y))) (mO K h o L (upd iv 7 (qP (qOn (av 0) nb nc x y))) av)) := by
  refine g_meth pf_X4_curtainOn (nle rfl) (fun p e s m args below meth c F hnm htb => ?_)
  have F : gFix K p s m args meth c cX4_curtainOn 5 RX4 (some .int) := F
  refine g_eql (lv' := [(0, .ref o), (1, .int x), (2, .int y)]) rfl ?_
  obtain ⟨h1, hb, h2, hc, h3, hh, h4, hq⟩ := hC
  refine g_aload_n F dX4_curtainOn_0 0 rfl rfl ?_
  refine g_iload_n F dX4_curtainOn_1 1 rfl rfl ?_
  refine g_callV F dX4_curtainOn_2 mi_X4_isBar q2369 q2371 qs29 gc_X4 mO_o (ct_X4_isBar hN h1) rfl rfl (nle rfl) (nle rfl) (nle rfl) (g_pur ?_) g_purX
  refine g_if_ne (tgt := 14) F dX4_curtainOn_5 (by decide) (fun c1 => ?_) (fun c1 => ?_)
  · obtain ⟨i, hi, rfl⟩ := xAt_i (by omega) c1
    refine g_iconst (v := 0) F dX4_curtainOn_14 rfl ?_
    refine g_istore_n (lv' := [(3, .int 0), (0, .ref o), (1, .int (nI i)), (2, .int y)]) F dX4_curtainOn_15 rfl (by decide) rfl ?_
    refine g_iconst (v := 0) F dX4_curtainOn_16 rfl ?_
    refine g_istore (lv' := [(4, .int 0), (3, .int 0), (0, .ref o), (1, .int (nI i)), (2, .int y)]) F dX4_curtainOn_17 (by decide) rfl ?_
    refine g_lv (lv' := [(0, .ref o), (1, .int (nI i)), (2, .int y), (3, .int 0), (4, .int 0)]) [2, 3, 4, 1, 0] rfl ?_
    have lp : ∀ k, k ≤ nc → xFd (qOnP (av 0) (nI i) y) nc 0 = xFd (qOnP (av 0) (nI i) y) (nc - k) k → G K p e s m args below meth c (gRm 2 43 0 0) 5 (pR (.int (qV (qOn (av 0) nb nc (nI i) y))) (mO K h o L (upd iv 7 (qP (qOn (av 0) nb nc (nI i) y))) av)) (mO K h o L iv av) 0 0 19 [(0, .ref o), (1, .int (nI i)), (2, .int y), (3, .int (mCnt (av 0) k (nI i))), (4, .int (nI k))] [] := by
      refine gloop nc (fun k hk ih => ?_)
      intro hinv
      refine g_iload F dX4_curtainOn_19 4 rfl ?_
      refine g_aload_n F dX4_curtainOn_21 0 rfl rfl ?_
      refine gf_X4_9_X4 (v := .ref (L 0)) F dX4_curtainOn_22 mO_o rfl ?_
      refine g_iconst (v := 2) F dX4_curtainOn_25 rfl ?_
      refine g_ialdN (i := 2) F (mO_0 hN) (rfl : (2 : Int32) = nI 2) (show 2 = 2 by omega) (by omega) (by decide) dX4_curtainOn_26 ?_
      refine g_eqs (st' := [.int (nI nc), .int (nI k)]) (by rw [h2]) ?_
      refine g_icmp_ge (tgt := 62) F dX4_curtainOn_27 (by decide) (fun c2 => ?_) (fun c2 => ?_)
      · have hkN : k = nc := gexit (by omega) hk c2
        rw [hkN, Nat.sub_self] at hinv
        refine g_aload_n F dX4_curtainOn_62 0 rfl rfl ?_
        refine g_iconst (v := 2) F dX4_curtainOn_63 rfl ?_
        refine g_callV F dX4_curtainOn_64 mi_X4_fails q2349 q2351 qs26 gc_X4 mO_o (ct_X4_fails hN) rfl rfl (nle rfl) (nle rfl) (nle rfl) (g_pur ?_) g_purX
        have hr : qOn (av 0) nb nc (nI i) y = (.inr 2 : xQ) := by grind [qOn, qIf, qOpt, xFd]
        exact g_iret F dX4_curtainOn_67 (⟨by rw [hr]; rfl, by rw [hr]; rfl⟩)
      · have hlt : k < nc := gbody (by omega) hk c2
        refine g_aload_n F dX4_curtainOn_30 0 rfl rfl ?_
        refine g_iload F dX4_curtainOn_31 4 rfl ?_
        refine g_callV F dX4_curtainOn_33 mi_X4_barOf1 q2381 q2383 qs32 gc_X4 mO_o (ct_X4_barOf1 hN (i := 44 + 2 * k) (nto (nadd (nadd (rfl : (43 : Int32) = nI 43) (nmul (rfl : (2 : Int32) = nI 2) rfl)) (rfl : (1 : Int32) = nI 1)) (show ((43 + (2 * k)) + 1) = 44 + 2 * k by omega)) (by omega)) rfl rfl (nle rfl) (nle rfl) (nle rfl) (g_pur ?_) g_purX
        refine g_iload_n F dX4_curtainOn_36 1 rfl rfl ?_
        refine g_icmp_ne (tgt := 56) F dX4_curtainOn_37 (by decide) (fun c3 => ?_) (fun c3 => ?_)
        · rw [xFd_f hlt (show qOnP (av 0) (nI i) y k = false by simp [qOnP, c3])] at hinv
          refine g_iinc (lv' := [(4, .int ((nI k) + 1)), (0, .ref o), (1, .int (nI i)), (2, .int y), (3, .int (mCnt (av 0) k (nI i)))]) (v := (nI k) + 1) F dX4_curtainOn_56 (k := 4) rfl rfl (by decide) rfl ?_
          refine g_goto (tgt := 19) F dX4_curtainOn_59 (by decide) ?_
          refine g_lv (lv' := [(0, .ref o), (1, .int (nI i)), (2, .int y), (3, .int (mCnt (av 0) k (nI i))), (4, .int ((nI k) + 1))]) [1, 2, 3, 4, 0] rfl ?_
          exact g_eql (lv' := [(0, .ref o), (1, .int (nI i)), (2, .int y), (3, .int (mCnt (av 0) (k + 1) (nI i))), (4, .int (nI (k + 1)))]) (by simp only [nI_1, mCnt, mSum_s]; grind) (ih hlt (hinv))
        · refine g_iload_n F dX4_curtainOn_40 3 rfl rfl ?_
          refine g_iload_n F dX4_curtainOn_41 2 rfl rfl ?_
          refine g_icmp_ne (tgt := 53) F dX4_curtainOn_42 (by decide) (fun c4 => ?_) (fun c4 => ?_)
          · rw [xFd_f hlt (show qOnP (av 0) (nI i) y k = false by simp [qOnP, c4])] at hinv
            refine g_iinc (lv' := [(3, .int ((mCnt (av 0) k (nI i)) + 1)), (0, .ref o), (1, .int (nI i)), (2, .int y), (4, .int (nI k))]) (v := (mCnt (av 0) k (nI i)) + 1) F dX4_curtainOn_53 (k := 3) rfl rfl (by decide) rfl ?_
            refine g_iinc (lv' := [(4, .int ((nI k) + 1)), (3, .int ((mCnt (av 0) k (nI i)) + 1)), (0, .ref o), (1, .int (nI i)), (2, .int y)]) (v := (nI k) + 1) F dX4_curtainOn_56 (k := 4) rfl rfl (by decide) rfl ?_
            refine g_goto (tgt := 19) F dX4_curtainOn_59 (by decide) ?_
            refine g_lv (lv' := [(0, .ref o), (1, .int (nI i)), (2, .int y), (3, .int ((mCnt (av 0) k (nI i)) + 1)), (4, .int ((nI k) + 1))]) [2, 3, 4, 1, 0] rfl ?_
            exact g_eql (lv' := [(0, .ref o), (1, .int (nI i)), (2, .int y), (3, .int (mCnt (av 0) (k + 1) (nI i))), (4, .int (nI (k + 1)))]) (by simp only [nI_1, mCnt, mSum_s]; grind) (ih hlt (hinv))
          · rw [xFd_t hlt (show qOnP (av 0) (nI i) y k = true by simp [qOnP, *])] at hinv
            refine g_aload_n F dX4_curtainOn_45 0 rfl rfl ?_
            refine g_iconst (v := 0) F dX4_curtainOn_46 rfl ?_
            refine gp_X4_69_X4 F dX4_curtainOn_47 mO_o hN.1 (nle rfl) rfl (fun h_e5 e5 => ?_)
            refine g_mput (iv2 := upd iv 7 0) e5 rfl ?_
            refine g_iload F dX4_curtainOn_50 4 rfl ?_
            have hr : qOn (av 0) nb nc (nI i) y = (.inl (nI k) : xQ) := by grind [qOn, qIf, qOpt, xFd]
            exact g_iret F dX4_curtainOn_52 (⟨by rw [hr]; rfl, by rw [hr]; rfl⟩)
    exact lp 0 (Nat.zero_le _) (rfl)
  · refine g_aload_n F dX4_curtainOn_8 0 rfl rfl ?_
    refine g_iconst (v := 1) F dX4_curtainOn_9 rfl ?_
    refine g_callV F dX4_curtainOn_10 mi_X4_fails q2349 q2351 qs26 gc_X4 mO_o (ct_X4_fails hN) rfl rfl (nle rfl) (nle rfl) (nle rfl) (g_pur ?_) g_purX
    have hr : qOn (av 0) nb nc x y = (.inr 1 : xQ) := by grind [qOn, qIf, qOpt, xFd]
    exact g_iret F dX4_curtainOn_13 (⟨by rw [hr]; rfl, by rw [hr]; rfl⟩)
set_option maxHeartbeats 4000000 in
set_option maxRecDepth 100000 in
theorem ct_X4_offWith {K : gK} {h : AH} {o : Nat} {L : Nat → Nat} {iv : Nat → Int32} {av : Nat → Nat → Int32} (hN : mN K o L) {nc i j : Nat} (h2 : av 0 2 = nI nc) (hc : nc ≤ 12) (hi : i < 8) (hj : j < nc) : gCt K yX4_offWith w_X4_offWith 2 44 0 0 (mO K h o L iv av) [.ref o, .int (nI i), .int (nI j)] (pR (.int (mWith (av 0) nc i j)) (mO K h o L iv av)) := by
  refine g_meth pf_X4_offWith (nle rfl) (fun p e s m args below meth c F hnm htb => ?_)
  have F : gFix K p s m args meth c cX4_offWith 4 RX4 (some .int) := F
  refine g_eql (lv' := [(0, .ref o), (1, .int (nI i)), (2, .int (nI j))]) rfl ?_
  refine g_aload_n F dX4_offWith_0 0 rfl rfl ?_
  refine g_iload_n F dX4_offWith_1 2 rfl rfl ?_
  refine g_callV F dX4_offWith_2 mi_X4_barOf1 q2381 q2383 qs32 gc_X4 mO_o (ct_X4_barOf1 hN (i := 44 + 2 * j) (nto (nadd (nadd (rfl : (43 : Int32) = nI 43) (nmul (rfl : (2 : Int32) = nI 2) rfl)) (rfl : (1 : Int32) = nI 1)) (show ((43 + (2 * j)) + 1) = 44 + 2 * j by omega)) (by omega)) rfl rfl (nle rfl) (nle rfl) (nle rfl) (g_pur ?_) g_purX
  refine g_iload_n F dX4_offWith_5 1 rfl rfl ?_
  refine g_icmp_ne (tgt := 13) F dX4_offWith_6 (by decide) (fun c1 => ?_) (fun c1 => ?_)
  · refine g_aload_n F dX4_offWith_13 0 rfl rfl ?_
    refine g_iload_n F dX4_offWith_14 2 rfl rfl ?_
    refine g_callV F dX4_offWith_15 mi_X4_weightOf q2385 q2387 qs33 gc_X4 mO_o (ct_X4_weightOf hN (i := 43 + 2 * j) (nto (nadd (rfl : (43 : Int32) = nI 43) (nmul (rfl : (2 : Int32) = nI 2) rfl)) (show (43 + (2 * j)) = 43 + 2 * j by omega)) (by omega)) rfl rfl (nle rfl) (nle rfl) (nle rfl) (g_pur ?_) g_purX
    refine g_istore_n (lv' := [(3, .int (av 0 (43 + 2 * j))), (0, .ref o), (1, .int (nI i)), (2, .int (nI j))]) F dX4_offWith_18 rfl (by decide) rfl ?_
    refine g_aload_n F dX4_offWith_19 1 rfl rfl ?_
    refine g_iload_n F dX4_offWith_20 2 rfl rfl ?_
    refine g_callV F dX4_offWith_21 mi_X4_load q2377 q2379 qs31 gc_X4 mO_o (ct_X4_load hN h2 hc) rfl rfl (nle rfl) (nle rfl) (nle rfl) (g_pur ?_) g_purX
    refine g_iload_n F dX4_offWith_24 0 rfl rfl ?_
    refine g_iadd F dX4_offWith_25 ?_
    refine g_bipush (v := 10) F dX4_offWith_26 rfl ?_
    refine g_aload_n F dX4_offWith_28 1 rfl rfl ?_
    refine g_iload_n F dX4_offWith_29 2 rfl rfl ?_
    refine g_iconst (v := 1) F dX4_offWith_30 rfl ?_
    refine g_callV F dX4_offWith_31 mi_X4_bar1 q2373 q2375 qs30 gc_X4 mO_o (ct_X4_bar1 hN (i := 12 + 4 * i) (nto (nadd (nadd (rfl : (11 : Int32) = nI 11) (nmul (rfl : (4 : Int32) = nI 4) rfl)) (rfl : (1 : Int32) = nI 1)) (show ((11 + (4 * i)) + 1) = 12 + 4 * i by omega)) (by omega)) rfl rfl (nle rfl) (nle rfl) (nle rfl) (g_pur ?_) g_purX
    refine g_imul F dX4_offWith_34 ?_
    refine g_isub F dX4_offWith_35 ?_
    refine g_callS F dX4_offWith_36 mi_J16_abs q2393 q1130 ct_J16_abs rfl rfl (nle rfl) (nle rfl) (nle rfl) (g_pur ?_) g_purX
    exact g_iret F dX4_offWith_39 (⟨by simp [mWith, *], rfl⟩)
  · refine g_iconst (v := 0) F dX4_offWith_9 rfl ?_
    refine g_goto (tgt := 18) F dX4_offWith_10 (by decide) ?_
    refine g_istore_n (lv' := [(3, .int 0), (0, .ref o), (1, .int (nI i)), (2, .int (nI j))]) F dX4_offWith_18 rfl (by decide) rfl ?_
    refine g_aload_n F dX4_offWith_19 1 rfl rfl ?_
    refine g_iload_n F dX4_offWith_20 2 rfl rfl ?_
    refine g_callV F dX4_offWith_21 mi_X4_load q2377 q2379 qs31 gc_X4 mO_o (ct_X4_load hN h2 hc) rfl rfl (nle rfl) (nle rfl) (nle rfl) (g_pur ?_) g_purX
    refine g_iload_n F dX4_offWith_24 0 rfl rfl ?_
    refine g_iadd F dX4_offWith_25 ?_
    refine g_bipush (v := 10) F dX4_offWith_26 rfl ?_
    refine g_aload_n F dX4_offWith_28 1 rfl rfl ?_
    refine g_iload_n F dX4_offWith_29 2 rfl rfl ?_
    refine g_iconst (v := 1) F dX4_offWith_30 rfl ?_
    refine g_callV F dX4_offWith_31 mi_X4_bar1 q2373 q2375 qs30 gc_X4 mO_o (ct_X4_bar1 hN (i := 12 + 4 * i) (nto (nadd (nadd (rfl : (11 : Int32) = nI 11) (nmul (rfl : (4 : Int32) = nI 4) rfl)) (rfl : (1 : Int32) = nI 1)) (show ((11 + (4 * i)) + 1) = 12 + 4 * i by omega)) (by omega)) rfl rfl (nle rfl) (nle rfl) (nle rfl) (g_pur ?_) g_purX
    refine g_imul F dX4_offWith_34 ?_
    refine g_isub F dX4_offWith_35 ?_
    refine g_callS F dX4_offWith_36 mi_J16_abs q2393 q1130 ct_J16_abs rfl rfl (nle rfl) (nle rfl) (nle rfl) (g_pur ?_) g_purX
    exact g_iret F dX4_offWith_39 (⟨by simp [mWith, *], rfl⟩)
set_option maxHeartbeats 4000000 in
set_option maxRecDepth 100000 in
theorem ct_X4_bestWeights {K : gK} {h : AH} {o : Nat} {L : Nat → Nat} {iv : Nat → Int32} {av : Nat → Nat → Int32} (hN : mN K o L) {x : Int32} {nb nc nh nq : Nat} (hC : mC (av 0) nb nc nh nq) (hL : mL (av 0) nb nc nq) : gCt K yX4_bestWeights w_X4_bestWeights 2 44 0 0 (mO K h o L iv av) [.ref o, .int x] (pR (.int (qV (qBestW (av 0) nb nc x))) (mO K h o L (upd iv 7 (qP (qBestW (av 0) nb nc x))) av)) := by
  refine g_meth pf_X4_bestWeights (nle rfl) (fun p e s m args below meth c F hnm htb => ?_)
  have F : gFix K p s m args meth c cX4_bestWeights 4 RX4 (some .int) := F
  refine g_eql (lv' := [(0, .ref o), (1, .int x)]) rfl ?_
  obtain ⟨h1, hb, h2, hc, h3, hh, h4, hq⟩ := hC
  refine g_aload_n F dX4_bestWeights_0 0 rfl rfl ?_
  refine g_aload_n F dX4_bestWeights_1 0 rfl rfl ?_
  refine g_iload_n F dX4_bestWeights_2 1 rfl rfl ?_
  refine g_callV F dX4_bestWeights_3 mi_X4_isBar q2369 q2371 qs29 gc_X4 mO_o (ct_X4_isBar hN h1) rfl rfl (nle rfl) (nle rfl) (nle rfl) (g_pur ?_) g_purX
  refine g_if_eq (tgt := 13) F dX4_bestWeights_6 (by decide) (fun c1 => ?_) (fun c1 => ?_)
  · refine g_iconst (v := 1) F dX4_bestWeights_13 rfl ?_
    refine gp_X4_69_X4 F dX4_bestWeights_14 mO_o hN.1 (nle rfl) rfl (fun h_e2 e2 => ?_)
    refine g_mput (iv2 := upd iv 7 1) e2 rfl ?_
    refine g_iconst (v := 0) F dX4_bestWeights_17 rfl ?_
    refine g_istore_n (lv' := [(2, .int 0), (0, .ref o), (1, .int x)]) F dX4_bestWeights_18 rfl (by decide) rfl ?_
    refine g_iconst (v := 1) F dX4_bestWeights_19 rfl ?_
    refine g_istore_n (lv' := [(3, .int 1), (2, .int 0), (0, .ref o), (1, .int x)]) F dX4_bestWeights_20 rfl (by decide) rfl ?_
    refine g_iload_n F dX4_bestWeights_21 0 rfl rfl ?_
    refine g_bipush (v := 20) F dX4_bestWeights_22 rfl ?_
    refine g_icmp_gt (tgt := 75) F dX4_bestWeights_24 (by decide) (fun c3 => absurd c3 (by decide)) (fun c3 => ?_)
    refine g_aload_n F dX4_bestWeights_27 2 rfl rfl ?_
    refine gf_X4_69_X4 (v := .int 1) F dX4_bestWeights_28 mO_o rfl ?_
    refine g_if_ne (tgt := 75) F dX4_bestWeights_31 (by decide) (fun c4 => ?_) (fun c4 => absurd c4 (by decide))
    refine g_iload_n F dX4_bestWeights_75 1 rfl rfl ?_
    have hr : qBestW (av 0) nb nc x = (.inr 1 : xQ) := by grind [qBestW, qIf]
    exact g_iret F dX4_bestWeights_76 (⟨by rw [hr]; rfl, by rw [hr]; rfl⟩)
  · obtain ⟨i, hi, rfl⟩ := xAt_i (by omega) c1
    refine g_iconst (v := 0) F dX4_bestWeights_9 rfl ?_
    refine g_goto (tgt := 14) F dX4_bestWeights_10 (by decide) ?_
    refine gp_X4_69_X4 F dX4_bestWeights_14 mO_o hN.1 (nle rfl) rfl (fun h_e5 e5 => ?_)
    refine g_mput (iv2 := upd iv 7 0) e5 rfl ?_
    refine g_iconst (v := 0) F dX4_bestWeights_17 rfl ?_
    refine g_istore_n (lv' := [(2, .int 0), (0, .ref o), (1, .int (nI i))]) F dX4_bestWeights_18 rfl (by decide) rfl ?_
    refine g_iconst (v := 1) F dX4_bestWeights_19 rfl ?_
    refine g_istore_n (lv' := [(3, .int 1), (2, .int 0), (0, .ref o), (1, .int (nI i))]) F dX4_bestWeights_20 rfl (by decide) rfl ?_
    refine g_lv (lv' := [(0, .ref o), (1, .int (nI i)), (2, .int 0), (3, .int 1)]) [2, 3, 1, 0] rfl ?_
    have lp : ∀ k, k ≤ 20 → G K p e s m args below meth c (gRm 2 44 0 0) 4 (pR (.int (qV (qBestW (av 0) nb nc (nI i)))) (mO K h o L (upd iv 7 (qP (qBestW (av 0) nb nc (nI i)))) av)) (mO K h o L (upd iv 7 0) av) 0 0 21 [(0, .ref o), (1, .int (nI i)), (2, .int (qBw (mLoad (av 0) nc (nI i)) k)), (3, .int (nI (k + 1)))] [] := by
      refine gloop 20 (fun k hk ih => ?_)
      refine g_iload_n F dX4_bestWeights_21 3 rfl rfl ?_
      refine g_bipush (v := 20) F dX4_bestWeights_22 rfl ?_
      refine g_icmp_gt (tgt := 75) F dX4_bestWeights_24 (by decide) (fun c6 => ?_) (fun c6 => ?_)
      · have hkN : k = 20 := by
          rcases Nat.lt_or_ge k 20 with q | q
          · exact absurd (show nI 20 < nI (k + 1) from c6) (nI_nlt (by omega) (by omega))
          · omega
        refine g_iload_n F dX4_bestWeights_75 2 rfl rfl ?_
        have hr : qBestW (av 0) nb nc (nI i) = (.inl (qBw (mLoad (av 0) nc (nI i)) k) : xQ) := by grind [qBestW, qIf]
        exact g_iret F dX4_bestWeights_76 (⟨by rw [hr]; rfl, by rw [hr]; rfl⟩)
      · have hlt : k < 20 := by
          rcases Nat.lt_or_ge k 20 with q | q
          · exact q
          · exact absurd (show nI 20 < nI (k + 1) from nI_lt (by omega) (by omega)) c6
        refine g_aload_n F dX4_bestWeights_27 0 rfl rfl ?_
        refine gf_X4_69_X4 (v := .int 0) F dX4_bestWeights_28 mO_o rfl ?_
        refine g_if_ne (tgt := 75) F dX4_bestWeights_31 (by decide) (fun c7 => absurd c7 (by decide)) (fun c7 => ?_)
        refine g_aload_n F dX4_bestWeights_34 0 rfl rfl ?_
        refine g_iload_n F dX4_bestWeights_35 1 rfl rfl ?_
        refine g_callV F dX4_bestWeights_36 mi_X4_load q2377 q2379 qs31 gc_X4 mO_o (ct_X4_load hN h2 hc) rfl rfl (nle rfl) (nle rfl) (nle rfl) (g_pur ?_) g_purX
        refine g_bipush (v := 10) F dX4_bestWeights_39 rfl ?_
        refine g_iload_n F dX4_bestWeights_41 3 rfl rfl ?_
        refine g_imul F dX4_bestWeights_42 ?_
        refine g_isub F dX4_bestWeights_43 ?_
        refine g_callS F dX4_bestWeights_44 mi_J16_abs q2393 q1130 ct_J16_abs rfl rfl (nle rfl) (nle rfl) (nle rfl) (g_pur ?_) g_purX
        refine g_aload_n F dX4_bestWeights_47 0 rfl rfl ?_
        refine g_iload_n F dX4_bestWeights_48 1 rfl rfl ?_
        refine g_callV F dX4_bestWeights_49 mi_X4_load q2377 q2379 qs31 gc_X4 mO_o (ct_X4_load hN h2 hc) rfl rfl (nle rfl) (nle rfl) (nle rfl) (g_pur ?_) g_purX
        refine g_bipush (v := 10) F dX4_bestWeights_52 rfl ?_
        refine g_iload_n F dX4_bestWeights_54 2 rfl rfl ?_
        refine g_imul F dX4_bestWeights_55 ?_
        refine g_isub F dX4_bestWeights_56 ?_
        refine g_callS F dX4_bestWeights_57 mi_J16_abs q2393 q1130 ct_J16_abs rfl rfl (nle rfl) (nle rfl) (nle rfl) (g_pur ?_) g_purX
        refine g_icmp_ge (tgt := 67) F dX4_bestWeights_60 (by decide) (fun c8 => ?_) (fun c8 => ?_)
        · refine g_iload_n F dX4_bestWeights_67 2 rfl rfl ?_
          refine g_istore_n (lv' := [(2, .int (qBw (mLoad (av 0) nc (nI i)) k)), (0, .ref o), (1, .int (nI i)), (3, .int (nI (k + 1)))]) F dX4_bestWeights_68 rfl (by decide) rfl ?_
          refine g_iinc (lv' := [(3, .int ((nI (k + 1)) + 1)), (2, .int (qBw (mLoad (av 0) nc (nI i)) k)), (0, .ref o), (1, .int (nI i))]) (v := (nI (k + 1)) + 1) F dX4_bestWeights_69 (k := 3) rfl rfl (by decide) rfl ?_
          refine g_goto (tgt := 21) F dX4_bestWeights_72 (by decide) ?_
          refine g_lv (lv' := [(0, .ref o), (1, .int (nI i)), (2, .int (qBw (mLoad (av 0) nc (nI i)) k)), (3, .int ((nI (k + 1)) + 1))]) [2, 3, 1, 0] rfl ?_
          exact g_eql (lv' := [(0, .ref o), (1, .int (nI i)), (2, .int (qBw (mLoad (av 0) nc (nI i)) (k + 1))), (3, .int (nI ((k + 1) + 1)))]) (by simp only [nI_1, qBw]; grind) (ih hlt)
        · refine g_iload_n F dX4_bestWeights_63 3 rfl rfl ?_
          refine g_goto (tgt := 68) F dX4_bestWeights_64 (by decide) ?_
          refine g_istore_n (lv' := [(2, .int (nI (k + 1))), (0, .ref o), (1, .int (nI i)), (3, .int (nI (k + 1)))]) F dX4_bestWeights_68 rfl (by decide) rfl ?_
          refine g_iinc (lv' := [(3, .int ((nI (k + 1)) + 1)), (2, .int (nI (k + 1))), (0, .ref o), (1, .int (nI i))]) (v := (nI (k + 1)) + 1) F dX4_bestWeights_69 (k := 3) rfl rfl (by decide) rfl ?_
          refine g_goto (tgt := 21) F dX4_bestWeights_72 (by decide) ?_
          refine g_lv (lv' := [(0, .ref o), (1, .int (nI i)), (2, .int (nI (k + 1))), (3, .int ((nI (k + 1)) + 1))]) [2, 3, 1, 0] rfl ?_
          exact g_eql (lv' := [(0, .ref o), (1, .int (nI i)), (2, .int (qBw (mLoad (av 0) nc (nI i)) (k + 1))), (3, .int (nI ((k + 1) + 1)))]) (by simp only [nI_1, qBw]; grind) (ih hlt)
    exact lp 0 (Nat.zero_le _)
set_option maxHeartbeats 4000000 in
set_option maxRecDepth 100000 in
theorem ct_X4_bestBar {K : gK} {h : AH} {o : Nat} {L : Nat → Nat} {iv : Nat → Int32} {av : Nat → Nat → Int32} (hN : mN K o L) {x : Int32} {nb nc nh nq : Nat} (hC : mC (av 0) nb nc nh nq) (hL : mL (av 0) nb nc nq) : gCt K yX4_bestBar w_X4_bestBar 3 67 0 0 (mO K h o L iv av) [.ref o, .int x] (pR (.int (qV (qBestB (av 0) nb nc x))) (mO K h o L (upd iv 7 (qP (qBestB (av 0) nb nc x))) av)) := by
  refine g_meth pf_X4_bestBar (nle rfl) (fun p e s m args below meth c F hnm htb => ?_)
  have F : gFix K p s m args meth c cX4_bestBar 5 RX4 (some .int) := F
  refine g_eql (lv' := [(0, .ref o), (1, .int x)]) rfl ?_
  obtain ⟨h1, hb, h2, hc, h3, hh, h4, hq⟩ := hC
  refine g_aload_n F dX4_bestBar_0 0 rfl rfl ?_
  refine g_aload_n F dX4_bestBar_1 0 rfl rfl ?_
  refine g_iload_n F dX4_bestBar_2 1 rfl rfl ?_
  refine g_callV F dX4_bestBar_3 mi_X4_isCurtain q2431 q2433 qs40 gc_X4 mO_o (ct_X4_isCurtain hN h2) rfl rfl (nle rfl) (nle rfl) (nle rfl) (g_pur ?_) g_purX
  refine g_if_eq (tgt := 13) F dX4_bestBar_6 (by decide) (fun c1 => ?_) (fun c1 => ?_)
  · refine g_iconst (v := 1) F dX4_bestBar_13 rfl ?_
    refine gp_X4_69_X4 F dX4_bestBar_14 mO_o hN.1 (nle rfl) rfl (fun h_e2 e2 => ?_)
    refine g_mput (iv2 := upd iv 7 1) e2 rfl ?_
    refine g_aload_n F dX4_bestBar_17 0 rfl rfl ?_
    refine gf_X4_69_X4 (v := .int 1) F dX4_bestBar_18 mO_o rfl ?_
    refine g_if_le (tgt := 26) F dX4_bestBar_21 (by decide) (fun c3 => absurd c3 (by decide)) (fun c3 => ?_)
    refine g_iconst (v := 0) F dX4_bestBar_24 rfl ?_
    have hr : qBestB (av 0) nb nc x = (.inr 1 : xQ) := by grind [qBestB, qIf, qOpt, nI_clamp]
    exact g_iret F dX4_bestBar_25 (⟨by rw [hr]; rfl, by rw [hr]; rfl⟩)
  · obtain ⟨i, hi, rfl⟩ := xAt_i (by omega) c1
    refine g_iconst (v := 0) F dX4_bestBar_9 rfl ?_
    refine g_goto (tgt := 14) F dX4_bestBar_10 (by decide) ?_
    refine gp_X4_69_X4 F dX4_bestBar_14 mO_o hN.1 (nle rfl) rfl (fun h_e4 e4 => ?_)
    refine g_mput (iv2 := upd iv 7 0) e4 rfl ?_
    refine g_aload_n F dX4_bestBar_17 0 rfl rfl ?_
    refine gf_X4_69_X4 (v := .int 0) F dX4_bestBar_18 mO_o rfl ?_
    refine g_if_le (tgt := 26) F dX4_bestBar_21 (by decide) (fun c5 => ?_) (fun c5 => absurd c5 (by decide))
    refine g_iconst (v := (-1)) F dX4_bestBar_26 rfl ?_
    refine g_istore_n (lv' := [(2, .int (-1)), (0, .ref o), (1, .int (nI i))]) F dX4_bestBar_27 rfl (by decide) rfl ?_
    refine g_iconst (v := 0) F dX4_bestBar_28 rfl ?_
    refine g_istore_n (lv' := [(3, .int 0), (2, .int (-1)), (0, .ref o), (1, .int (nI i))]) F dX4_bestBar_29 rfl (by decide) rfl ?_
    refine g_lv (lv' := [(0, .ref o), (1, .int (nI i)), (2, .int (-1)), (3, .int 0)]) [2, 3, 1, 0] rfl ?_
    have lp : ∀ k, k ≤ nb → G K p e s m args below meth c (gRm 3 67 0 0) 5 (pR (.int (qV (qBestB (av 0) nb nc (nI i)))) (mO K h o L (upd iv 7 (qP (qBestB (av 0) nb nc (nI i)))) av)) (mO K h o L (upd iv 7 0) av) 0 0 30 [(0, .ref o), (1, .int (nI i)), (2, .int (xNextI (qBB (av 0) nc i k))), (3, .int (nI k))] [] := by
      refine gloop nb (fun k hk ih => ?_)
      refine g_iload_n F dX4_bestBar_30 3 rfl rfl ?_
      refine g_aload_n F dX4_bestBar_31 0 rfl rfl ?_
      refine gf_X4_9_X4 (v := .ref (L 0)) F dX4_bestBar_32 mO_o rfl ?_
      refine g_iconst (v := 1) F dX4_bestBar_35 rfl ?_
      refine g_ialdN (i := 1) F (mO_0 hN) (rfl : (1 : Int32) = nI 1) (show 1 = 1 by omega) (by omega) (by decide) dX4_bestBar_36 ?_
      refine g_eqs (st' := [.int (nI nb), .int (nI k)]) (by rw [h1]) ?_
      refine g_icmp_ge (tgt := 114) F dX4_bestBar_37 (by decide) (fun c6 => ?_) (fun c6 => ?_)
      · have hkN : k = nb := gexit (by omega) hk c6
        rcases hbb : qBB (av 0) nc i k with _ | b
        · refine g_eql (lv' := [(0, .ref o), (1, .int (nI i)), (2, .int (-1)), (3, .int (nI k))]) rfl ?_
          refine g_aload_n F dX4_bestBar_114 0 rfl rfl ?_
          refine g_iload_n F dX4_bestBar_115 2 rfl rfl ?_
          refine g_if_ge (tgt := 123) F dX4_bestBar_116 (by decide) (fun c7 => absurd c7 (by decide)) (fun c7 => ?_)
          refine g_iconst (v := 2) F dX4_bestBar_119 rfl ?_
          refine g_goto (tgt := 124) F dX4_bestBar_120 (by decide) ?_
          refine gp_X4_69_X4 F dX4_bestBar_124 mO_o hN.1 (nle rfl) rfl (fun h_e8 e8 => ?_)
          refine g_mput (iv2 := upd (upd iv 7 0) 7 2) e8 rfl ?_
          refine g_aload_n F dX4_bestBar_127 0 rfl rfl ?_
          refine gf_X4_69_X4 (v := .int 2) F dX4_bestBar_128 mO_o rfl ?_
          refine g_if_le (tgt := 138) F dX4_bestBar_131 (by decide) (fun c9 => absurd c9 (by decide)) (fun c9 => ?_)
          refine g_iconst (v := 0) F dX4_bestBar_134 rfl ?_
          refine g_goto (tgt := 139) F dX4_bestBar_135 (by decide) ?_
          have hr : qBestB (av 0) nb nc (nI i) = (.inr 2 : xQ) := by grind [qBestB, qIf, qOpt, nI_clamp]
          exact g_iret F dX4_bestBar_139 (⟨by rw [hr]; rfl, by rw [hr]; rfl⟩)
        · have hbk := qBB_lt hbb
          refine g_eql (lv' := [(0, .ref o), (1, .int (nI i)), (2, .int (nI b)), (3, .int (nI k))]) rfl ?_
          refine g_aload_n F dX4_bestBar_114 0 rfl rfl ?_
          refine g_iload_n F dX4_bestBar_115 2 rfl rfl ?_
          refine g_if_ge (tgt := 123) F dX4_bestBar_116 (by decide) (fun c10 => ?_) (fun c10 => absurd c10 (absurd (nI_pos' (n := b) (by omega)) c10))
          refine g_iconst (v := 0) F dX4_bestBar_123 rfl ?_
          refine gp_X4_69_X4 F dX4_bestBar_124 mO_o hN.1 (nle rfl) rfl (fun h_e11 e11 => ?_)
          refine g_mput (iv2 := upd (upd iv 7 0) 7 0) e11 rfl ?_
          refine g_aload_n F dX4_bestBar_127 0 rfl rfl ?_
          refine gf_X4_69_X4 (v := .int 0) F dX4_bestBar_128 mO_o rfl ?_
          refine g_if_le (tgt := 138) F dX4_bestBar_131 (by decide) (fun c12 => ?_) (fun c12 => absurd c12 (by decide))
          refine g_iload_n F dX4_bestBar_138 2 rfl rfl ?_
          have hr : qBestB (av 0) nb nc (nI i) = (.inl (nI b) : xQ) := by grind [qBestB, qIf, qOpt, nI_clamp]
          exact g_iret F dX4_bestBar_139 (⟨by rw [hr]; rfl, by rw [hr]; rfl⟩)
      · have hlt : k < nb := gbody (by omega) hk c6
        rcases hbb : qBB (av 0) nc i k with _ | b
        · refine g_eql (lv' := [(0, .ref o), (1, .int (nI i)), (2, .int (-1)), (3, .int (nI k))]) rfl ?_
          refine g_iload_n F dX4_bestBar_40 2 rfl rfl ?_
          refine g_if_ge (tgt := 48) F dX4_bestBar_41 (by decide) (fun c13 => absurd c13 (by decide)) (fun c13 => ?_)
          refine g_iconst (v := 1) F dX4_bestBar_44 rfl ?_
          refine g_goto (tgt := 61) F dX4_bestBar_45 (by decide) ?_
          refine g_istore (lv' := [(4, .int 1), (0, .ref o), (1, .int (nI i)), (2, .int (-1)), (3, .int (nI k))]) F dX4_bestBar_61 (by decide) rfl ?_
          refine g_iload F dX4_bestBar_63 0 rfl ?_
          refine g_if_eq (tgt := 73) F dX4_bestBar_65 (by decide) (fun c14 => absurd c14 (by decide)) (fun c14 => ?_)
          refine g_iload F dX4_bestBar_68 0 rfl ?_
          refine g_goto (tgt := 86) F dX4_bestBar_70 (by decide) ?_
          refine g_istore (lv' := [(4, .int 1), (0, .ref o), (1, .int (nI i)), (2, .int (-1)), (3, .int (nI k))]) F dX4_bestBar_86 (by decide) rfl ?_
          refine g_aload_n F dX4_bestBar_88 1 rfl rfl ?_
          refine g_iload_n F dX4_bestBar_89 4 rfl rfl ?_
          refine g_iconst (v := 0) F dX4_bestBar_90 rfl ?_
          refine g_callV F dX4_bestBar_91 mi_X4_bar1 q2373 q2375 qs30 gc_X4 mO_o (ct_X4_bar1 hN (i := 11 + 4 * k) (nto (nadd (nadd (rfl : (11 : Int32) = nI 11) (nmul (rfl : (4 : Int32) = nI 4) rfl)) (rfl : (0 : Int32) = nI 0)) (show ((11 + (4 * k)) + 0) = 11 + 4 * k by omega)) (by omega)) rfl rfl (nle rfl) (nle rfl) (nle rfl) (g_pur ?_) g_purX
          refine g_if_ne (tgt := 106) F dX4_bestBar_94 (by decide) (fun c15 => ?_) (fun c15 => ?_)
          · refine g_iload_n F dX4_bestBar_106 3 rfl rfl ?_
            refine g_istore_n (lv' := [(2, .int (-1)), (4, .int 1), (0, .ref o), (1, .int (nI i)), (3, .int (nI k))]) F dX4_bestBar_107 rfl (by decide) rfl ?_
            refine g_iinc (lv' := [(3, .int ((nI k) + 1)), (2, .int (-1)), (4, .int 1), (0, .ref o), (1, .int (nI i))]) (v := (nI k) + 1) F dX4_bestBar_108 (k := 4) rfl rfl (by decide) rfl ?_
            refine g_goto (tgt := 30) F dX4_bestBar_111 (by decide) ?_
            refine g_lv (lv' := [(0, .ref o), (1, .int (nI i)), (2, .int (-1)), (3, .int ((nI k) + 1))]) [3, 4, 1, 0] rfl ?_
            exact g_eql (lv' := [(0, .ref o), (1, .int (nI i)), (2, .int (xNextI (qBB (av 0) nc i (k + 1)))), (3, .int (nI (k + 1)))]) (by simp only [nI_1, qBB_s, hbb]; grind [xNextI]) (ih hlt)
          · refine g_iload F dX4_bestBar_97 0 rfl ?_
            refine g_if_le (tgt := 106) F dX4_bestBar_99 (by decide) (fun c16 => absurd c16 (by decide)) (fun c16 => ?_)
            refine g_iload_n F dX4_bestBar_102 4 rfl rfl ?_
            refine g_goto (tgt := 107) F dX4_bestBar_103 (by decide) ?_
            refine g_istore_n (lv' := [(2, .int (nI k)), (4, .int 1), (0, .ref o), (1, .int (nI i)), (3, .int (nI k))]) F dX4_bestBar_107 rfl (by decide) rfl ?_
            refine g_iinc (lv' := [(3, .int ((nI k) + 1)), (2, .int (nI k)), (4, .int 1), (0, .ref o), (1, .int (nI i))]) (v := (nI k) + 1) F dX4_bestBar_108 (k := 4) rfl rfl (by decide) rfl ?_
            refine g_goto (tgt := 30) F dX4_bestBar_111 (by decide) ?_
            refine g_lv (lv' := [(0, .ref o), (1, .int (nI i)), (2, .int (nI k)), (3, .int ((nI k) + 1))]) [3, 4, 1, 0] rfl ?_
            exact g_eql (lv' := [(0, .ref o), (1, .int (nI i)), (2, .int (xNextI (qBB (av 0) nc i (k + 1)))), (3, .int (nI (k + 1)))]) (by simp only [nI_1, qBB_s, hbb]; grind [xNextI]) (ih hlt)
        · have hbk := qBB_lt hbb
          refine g_eql (lv' := [(0, .ref o), (1, .int (nI i)), (2, .int (nI b)), (3, .int (nI k))]) rfl ?_
          refine g_iload_n F dX4_bestBar_40 2 rfl rfl ?_
          refine g_if_ge (tgt := 48) F dX4_bestBar_41 (by decide) (fun c17 => ?_) (fun c17 => absurd c17 (absurd (nI_pos' (n := b) (by omega)) c17))
          refine g_aload_n F dX4_bestBar_48 0 rfl rfl ?_
          refine g_iload_n F dX4_bestBar_49 2 rfl rfl ?_
          refine g_iload_n F dX4_bestBar_50 1 rfl rfl ?_
          refine g_callV F dX4_bestBar_51 mi_X4_offWith q2475 q2477 qs45 gc_X4 mO_o (ct_X4_offWith hN (i := b) (j := i) h2 hc (by omega) (by omega)) rfl rfl (nle rfl) (nle rfl) (nle rfl) (g_pur ?_) g_purX
          refine g_aload_n F dX4_bestBar_54 0 rfl rfl ?_
          refine g_iload_n F dX4_bestBar_55 3 rfl rfl ?_
          refine g_iload_n F dX4_bestBar_56 1 rfl rfl ?_
          refine g_callV F dX4_bestBar_57 mi_X4_offWith q2475 q2477 qs45 gc_X4 mO_o (ct_X4_offWith hN (i := k) (j := i) h2 hc (by omega) (by omega)) rfl rfl (nle rfl) (nle rfl) (nle rfl) (g_pur ?_) g_purX
          refine g_isub F dX4_bestBar_60 ?_
          refine g_istore (lv' := [(4, .int ((mWith (av 0) nc b i) - (mWith (av 0) nc k i))), (0, .ref o), (1, .int (nI i)), (2, .int (nI b)), (3, .int (nI k))]) F dX4_bestBar_61 (by decide) rfl ?_
          refine g_iload F dX4_bestBar_63 0 rfl ?_
          refine g_if_eq (tgt := 73) F dX4_bestBar_65 (by decide) (fun c18 => ?_) (fun c18 => ?_)
          · refine g_aload_n F dX4_bestBar_73 1 rfl rfl ?_
            refine g_iload_n F dX4_bestBar_74 3 rfl rfl ?_
            refine g_iconst (v := 2) F dX4_bestBar_75 rfl ?_
            refine g_callV F dX4_bestBar_76 mi_X4_bar1 q2373 q2375 qs30 gc_X4 mO_o (ct_X4_bar1 hN (i := 13 + 4 * b) (nto (nadd (nadd (rfl : (11 : Int32) = nI 11) (nmul (rfl : (4 : Int32) = nI 4) rfl)) (rfl : (2 : Int32) = nI 2)) (show ((11 + (4 * b)) + 2) = 13 + 4 * b by omega)) (by omega)) rfl rfl (nle rfl) (nle rfl) (nle rfl) (g_pur ?_) g_purX
            refine g_aload_n F dX4_bestBar_79 1 rfl rfl ?_
            refine g_iload_n F dX4_bestBar_80 4 rfl rfl ?_
            refine g_iconst (v := 2) F dX4_bestBar_81 rfl ?_
            refine g_callV F dX4_bestBar_82 mi_X4_bar1 q2373 q2375 qs30 gc_X4 mO_o (ct_X4_bar1 hN (i := 13 + 4 * k) (nto (nadd (nadd (rfl : (11 : Int32) = nI 11) (nmul (rfl : (4 : Int32) = nI 4) rfl)) (rfl : (2 : Int32) = nI 2)) (show ((11 + (4 * k)) + 2) = 13 + 4 * k by omega)) (by omega)) rfl rfl (nle rfl) (nle rfl) (nle rfl) (g_pur ?_) g_purX
            refine g_isub F dX4_bestBar_85 ?_
            refine g_istore (lv' := [(4, .int ((av 0 (13 + 4 * b)) - (av 0 (13 + 4 * k)))), (0, .ref o), (1, .int (nI i)), (2, .int (nI b)), (3, .int (nI k))]) F dX4_bestBar_86 (by decide) rfl ?_
            refine g_aload_n F dX4_bestBar_88 1 rfl rfl ?_
            refine g_iload_n F dX4_bestBar_89 4 rfl rfl ?_
            refine g_iconst (v := 0) F dX4_bestBar_90 rfl ?_
            refine g_callV F dX4_bestBar_91 mi_X4_bar1 q2373 q2375 qs30 gc_X4 mO_o (ct_X4_bar1 hN (i := 11 + 4 * k) (nto (nadd (nadd (rfl : (11 : Int32) = nI 11) (nmul (rfl : (4 : Int32) = nI 4) rfl)) (rfl : (0 : Int32) = nI 0)) (show ((11 + (4 * k)) + 0) = 11 + 4 * k by omega)) (by omega)) rfl rfl (nle rfl) (nle rfl) (nle rfl) (g_pur ?_) g_purX
            refine g_if_ne (tgt := 106) F dX4_bestBar_94 (by decide) (fun c19 => ?_) (fun c19 => ?_)
            · refine g_iload_n F dX4_bestBar_106 3 rfl rfl ?_
              refine g_istore_n (lv' := [(2, .int (nI b)), (4, .int ((av 0 (13 + 4 * b)) - (av 0 (13 + 4 * k)))), (0, .ref o), (1, .int (nI i)), (3, .int (nI k))]) F dX4_bestBar_107 rfl (by decide) rfl ?_
              refine g_iinc (lv' := [(3, .int ((nI k) + 1)), (2, .int (nI b)), (4, .int ((av 0 (13 + 4 * b)) - (av 0 (13 + 4 * k)))), (0, .ref o), (1, .int (nI i))]) (v := (nI k) + 1) F dX4_bestBar_108 (k := 4) rfl rfl (by decide) rfl ?_
              refine g_goto (tgt := 30) F dX4_bestBar_111 (by decide) ?_
              refine g_lv (lv' := [(0, .ref o), (1, .int (nI i)), (2, .int (nI b)), (3, .int ((nI k) + 1))]) [3, 4, 1, 0] rfl ?_
              exact g_eql (lv' := [(0, .ref o), (1, .int (nI i)), (2, .int (xNextI (qBB (av 0) nc i (k + 1)))), (3, .int (nI (k + 1)))]) (by simp only [nI_1, qBB_s, hbb]; grind [xNextI]) (ih hlt)
            · refine g_iload F dX4_bestBar_97 0 rfl ?_
              refine g_if_le (tgt := 106) F dX4_bestBar_99 (by decide) (fun c20 => ?_) (fun c20 => ?_)
              · refine g_iload_n F dX4_bestBar_106 3 rfl rfl ?_
                refine g_istore_n (lv' := [(2, .int (nI b)), (4, .int ((av 0 (13 + 4 * b)) - (av 0 (13 + 4 * k)))), (0, .ref o), (1, .int (nI i)), (3, .int (nI k))]) F dX4_bestBar_107 rfl (by decide) rfl ?_
                refine g_iinc (lv' := [(3, .int ((nI k) + 1)), (2, .int (nI b)), (4, .int ((av 0 (13 + 4 * b)) - (av 0 (13 + 4 * k)))), (0, .ref o), (1, .int (nI i))]) (v := (nI k) + 1) F dX4_bestBar_108 (k := 4) rfl rfl (by decide) rfl ?_
                refine g_goto (tgt := 30) F dX4_bestBar_111 (by decide) ?_
                refine g_lv (lv' := [(0, .ref o), (1, .int (nI i)), (2, .int (nI b)), (3, .int ((nI k) + 1))]) [3, 4, 1, 0] rfl ?_
                exact g_eql (lv' := [(0, .ref o), (1, .int (nI i)), (2, .int (xNextI (qBB (av 0) nc i (k + 1)))), (3, .int (nI (k + 1)))]) (by simp only [nI_1, qBB_s, hbb]; grind [xNextI]) (ih hlt)
              · refine g_iload_n F dX4_bestBar_102 4 rfl rfl ?_
                refine g_goto (tgt := 107) F dX4_bestBar_103 (by decide) ?_
                refine g_istore_n (lv' := [(2, .int (nI k)), (4, .int ((av 0 (13 + 4 * b)) - (av 0 (13 + 4 * k)))), (0, .ref o), (1, .int (nI i)), (3, .int (nI k))]) F dX4_bestBar_107 rfl (by decide) rfl ?_
                refine g_iinc (lv' := [(3, .int ((nI k) + 1)), (2, .int (nI k)), (4, .int ((av 0 (13 + 4 * b)) - (av 0 (13 + 4 * k)))), (0, .ref o), (1, .int (nI i))]) (v := (nI k) + 1) F dX4_bestBar_108 (k := 4) rfl rfl (by decide) rfl ?_
                refine g_goto (tgt := 30) F dX4_bestBar_111 (by decide) ?_
                refine g_lv (lv' := [(0, .ref o), (1, .int (nI i)), (2, .int (nI k)), (3, .int ((nI k) + 1))]) [3, 4, 1, 0] rfl ?_
                exact g_eql (lv' := [(0, .ref o), (1, .int (nI i)), (2, .int (xNextI (qBB (av 0) nc i (k + 1)))), (3, .int (nI (k + 1)))]) (by simp only [nI_1, qBB_s, hbb]; grind [xNextI]) (ih hlt)
          · refine g_iload F dX4_bestBar_68 0 rfl ?_
            refine g_goto (tgt := 86) F dX4_bestBar_70 (by decide) ?_
            refine g_istore (lv' := [(4, .int ((mWith (av 0) nc b i) - (mWith (av 0) nc k i))), (0, .ref o), (1, .int (nI i)), (2, .int (nI b)), (3, .int (nI k))]) F dX4_bestBar_86 (by decide) rfl ?_
            refine g_aload_n F dX4_bestBar_88 1 rfl rfl ?_
            refine g_iload_n F dX4_bestBar_89 4 rfl rfl ?_
            refine g_iconst (v := 0) F dX4_bestBar_90 rfl ?_
            refine g_callV F dX4_bestBar_91 mi_X4_bar1 q2373 q2375 qs30 gc_X4 mO_o (ct_X4_bar1 hN (i := 11 + 4 * k) (nto (nadd (nadd (rfl : (11 : Int32) = nI 11) (nmul (rfl : (4 : Int32) = nI 4) rfl)) (rfl : (0 : Int32) = nI 0)) (show ((11 + (4 * k)) + 0) = 11 + 4 * k by omega)) (by omega)) rfl rfl (nle rfl) (nle rfl) (nle rfl) (g_pur ?_) g_purX
            refine g_if_ne (tgt := 106) F dX4_bestBar_94 (by decide) (fun c21 => ?_) (fun c21 => ?_)
            · refine g_iload_n F dX4_bestBar_106 3 rfl rfl ?_
              refine g_istore_n (lv' := [(2, .int (nI b)), (4, .int ((mWith (av 0) nc b i) - (mWith (av 0) nc k i))), (0, .ref o), (1, .int (nI i)), (3, .int (nI k))]) F dX4_bestBar_107 rfl (by decide) rfl ?_
              refine g_iinc (lv' := [(3, .int ((nI k) + 1)), (2, .int (nI b)), (4, .int ((mWith (av 0) nc b i) - (mWith (av 0) nc k i))), (0, .ref o), (1, .int (nI i))]) (v := (nI k) + 1) F dX4_bestBar_108 (k := 4) rfl rfl (by decide) rfl ?_
              refine g_goto (tgt := 30) F dX4_bestBar_111 (by decide) ?_
              refine g_lv (lv' := [(0, .ref o), (1, .int (nI i)), (2, .int (nI b)), (3, .int ((nI k) + 1))]) [3, 4, 1, 0] rfl ?_
              exact g_eql (lv' := [(0, .ref o), (1, .int (nI i)), (2, .int (xNextI (qBB (av 0) nc i (k + 1)))), (3, .int (nI (k + 1)))]) (by simp only [nI_1, qBB_s, hbb]; grind [xNextI]) (ih hlt)
            · refine g_iload F dX4_bestBar_97 0 rfl ?_
              refine g_if_le (tgt := 106) F dX4_bestBar_99 (by decide) (fun c22 => ?_) (fun c22 => ?_)
              · refine g_iload_n F dX4_bestBar_106 3 rfl rfl ?_
                refine g_istore_n (lv' := [(2, .int (nI b)), (4, .int ((mWith (av 0) nc b i) - (mWith (av 0) nc k i))), (0, .ref o), (1, .int (nI i)), (3, .int (nI k))]) F dX4_bestBar_107 rfl (by decide) rfl ?_
                refine g_iinc (lv' := [(3, .int ((nI k) + 1)), (2, .int (nI b)), (4, .int ((mWith (av 0) nc b i) - (mWith (av 0) nc k i))), (0, .ref o), (1, .int (nI i))]) (v := (nI k) + 1) F dX4_bestBar_108 (k := 4) rfl rfl (by decide) rfl ?_
                refine g_goto (tgt := 30) F dX4_bestBar_111 (by decide) ?_
                refine g_lv (lv' := [(0, .ref o), (1, .int (nI i)), (2, .int (nI b)), (3, .int ((nI k) + 1))]) [3, 4, 1, 0] rfl ?_
                exact g_eql (lv' := [(0, .ref o), (1, .int (nI i)), (2, .int (xNextI (qBB (av 0) nc i (k + 1)))), (3, .int (nI (k + 1)))]) (by simp only [nI_1, qBB_s, hbb]; grind [xNextI]) (ih hlt)
              · refine g_iload_n F dX4_bestBar_102 4 rfl rfl ?_
                refine g_goto (tgt := 107) F dX4_bestBar_103 (by decide) ?_
                refine g_istore_n (lv' := [(2, .int (nI k)), (4, .int ((mWith (av 0) nc b i) - (mWith (av 0) nc k i))), (0, .ref o), (1, .int (nI i)), (3, .int (nI k))]) F dX4_bestBar_107 rfl (by decide) rfl ?_
                refine g_iinc (lv' := [(3, .int ((nI k) + 1)), (2, .int (nI k)), (4, .int ((mWith (av 0) nc b i) - (mWith (av 0) nc k i))), (0, .ref o), (1, .int (nI i))]) (v := (nI k) + 1) F dX4_bestBar_108 (k := 4) rfl rfl (by decide) rfl ?_
                refine g_goto (tgt := 30) F dX4_bestBar_111 (by decide) ?_
                refine g_lv (lv' := [(0, .ref o), (1, .int (nI i)), (2, .int (nI k)), (3, .int ((nI k) + 1))]) [3, 4, 1, 0] rfl ?_
                exact g_eql (lv' := [(0, .ref o), (1, .int (nI i)), (2, .int (xNextI (qBB (av 0) nc i (k + 1)))), (3, .int (nI (k + 1)))]) (by simp only [nI_1, qBB_s, hbb]; grind [xNextI]) (ih hlt)
    exact lp 0 (Nat.zero_le _)
