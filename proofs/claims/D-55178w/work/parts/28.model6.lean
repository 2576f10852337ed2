/-! ===== THE REFERENCE: playing ahead, means (written by tools/model6.py) ===== -/
set_option maxHeartbeats 4000000 in
set_option maxRecDepth 100000 in
theorem ct_X4_playable {K : gK} {h : AH} {o : Nat} {L : Nat → Nat} {iv : Nat → Int32} {av : Nat → Nat → Int32} (hN : mN K o L) {nb nc nh nq : Nat} (hC : mC (av 0) nb nc nh nq) (hL : mL (av 0) nb nc nq) (hz : mZ av) : gCt K yX4_playable w_X4_playable 6 134 0 0 (mO K h o L iv av) [.ref o] (pR (.int (nI (qPl nc nh nq (xAh (av 0) nq) (av 0)))) (mO K h o L (upd iv 7 0) (mu av 2 (av 0)))) := by
  refine g_meth pf_X4_playable (nle rfl) (fun p e s m args below meth c F hnm htb => ?_)
  have F : gFix K p s m args meth c cX4_playable 5 RX4 (some .int) := F
  refine g_eql (lv' := [(0, .ref o)]) rfl ?_
  refine g_aload_n F dX4_playable_0 0 rfl rfl ?_
  refine gf_X4_81_X4 (v := .int (iv 8)) F dX4_playable_1 mO_o rfl ?_
  refine g_istore_n (lv' := [(1, .int (iv 8)), (0, .ref o)]) F dX4_playable_4 rfl (by decide) rfl ?_
  refine g_aload_n F dX4_playable_5 1 rfl rfl ?_
  refine gf_X4_84_X4 (v := .int (iv 9)) F dX4_playable_6 mO_o rfl ?_
  refine g_istore_n (lv' := [(2, .int (iv 9)), (1, .int (iv 8)), (0, .ref o)]) F dX4_playable_9 rfl (by decide) rfl ?_
  refine g_aload_n F dX4_playable_10 2 rfl rfl ?_
  refine g_iconst (v := 0) F dX4_playable_11 rfl ?_
  refine gp_X4_69_X4 F dX4_playable_12 mO_o hN.1 (nle rfl) rfl (fun h_e1 e1 => ?_)
  refine g_mput (iv2 := upd iv 7 0) e1 rfl ?_
  refine g_aload_n F dX4_playable_15 2 rfl rfl ?_
  refine gf_X4_9_X4 (v := .ref (L 0)) F dX4_playable_16 mO_o rfl ?_
  refine g_iconst (v := 0) F dX4_playable_19 rfl ?_
  refine g_aload_n F dX4_playable_20 2 rfl rfl ?_
  refine gf_X4_16_X4 (v := .ref (L 2)) F dX4_playable_21 mO_o rfl ?_
  refine g_iconst (v := 0) F dX4_playable_24 rfl ?_
  refine g_sipush (v := 131) F dX4_playable_25 rfl ?_
  refine g_mcopy hN 0 2 (n0 := 131) (n1 := 131) (a := 0) (b0 := 0) (k := 131) F ⟨q2345, q718, q717, q94⟩ (by decide) (by decide) (by decide) rfl rfl (mO_0 hN) (mO_2 hN) (nto (rfl : (0 : Int32) = nI 0) (show 0 = 0 by omega)) (nto (rfl : (0 : Int32) = nI 0) (show 0 = 0 by omega)) (nto (rfl : (131 : Int32) = nI 131) (show 131 = 131 by omega)) (by omega) (by omega) (by decide) (nle rfl) (nle rfl) dX4_playable_28 ?_
  refine g_eqh (h' := mO K h o L (upd iv 7 0) (mu av 2 (av 0))) (by rw [cpy_full hz.1 hz.2.2.1]) ?_
  refine g_iconst (v := 0) F dX4_playable_31 rfl ?_
  refine g_istore_n (lv' := [(3, .int 0), (2, .int (iv 9)), (1, .int (iv 8)), (0, .ref o)]) F dX4_playable_32 rfl (by decide) rfl ?_
  refine g_aload_n F dX4_playable_33 3 rfl rfl ?_
  refine g_callV F dX4_playable_34 mi_X4_doGo q2568 q2570 qs56 gc_X4 mO_o (ct_X4_doGo (h := h) (iv := upd iv 7 0) (av := mu av 2 (av 0)) hN hC hL) rfl rfl (nle rfl) (nle rfl) (nle rfl) (g_pur ?_) g_purX
  refine g_istore (lv' := [(4, .int (xRet (xGo (av 0) nc nh nq))), (3, .int 0), (2, .int (iv 9)), (1, .int (iv 8)), (0, .ref o)]) F dX4_playable_37 (by decide) rfl ?_
  refine g_lv (lv' := [(0, .ref o), (1, .int (iv 8)), (2, .int (iv 9)), (3, .int 0), (4, .int (xRet (xGo (av 0) nc nh nq)))]) [4, 3, 2, 1, 0] rfl ?_
  have lp : ∀ (fu : Nat) (f : Nat → Int32) (nn : Nat) (a : Int32), xAh f nq ≤ fu → mC f nb nc nh nq → mL f nb nc nq → (∀ j, 131 ≤ j → f j = 0) → nn + qPl nc nh nq (xAh f nq) f = qPl nc nh nq (xAh (av 0) nq) (av 0) → G K p e s m args below meth c (gRm 6 134 0 0) 5 (pR (.int (nI (qPl nc nh nq (xAh (av 0) nq) (av 0)))) (mO K h o L (upd iv 7 0) (mu av 2 (av 0)))) (mO K h o L (xIv (upd iv 7 0) (xGo f nc nh nq)) (xAv (mu (mu av 2 (av 0)) 0 f) (xGo f nc nh nq))) 0 0 39 [(0, .ref o), (1, .int (iv 8)), (2, .int (iv 9)), (3, .int (nI nn)), (4, .int a)] [] := by
    intro fu
    induction fu using Nat.strongRecOn with
    | _ fu ih =>
    intro f nn a hfu hC hL hzf hn
    rcases hr : xGo f nc nh nq with ⟨l, f'⟩ | ⟨pp, d⟩
    · have k1 := xGo_keep hL hC.2.1 hr
      have k2 := xGo_C hC hL hr
      have hzf' : ∀ j, 131 ≤ j → f' j = 0 := fun j hj => by rw [k1.1 j (by omega)]; exact hzf j hj
      have hn' : nn + 1 + qPl nc nh nq (xAh f' nq) f' = qPl nc nh nq (xAh (av 0) nq) (av 0) := by
        rw [← hn]; obtain ⟨m', hm⟩ : ∃ m', xAh f nq = m' + 1 := ⟨xAh f nq - 1, by omega⟩
        rw [hm, qPl_l hr, qPl_f (n := m') (m := xAh f' nq) k2.1 k2.2 (by omega) (Nat.le_refl _)]; omega
      refine g_eqh (h' := (mO K h o L (upd iv 7 0) (mu (mu av 2 (av 0)) 0 f'))) (by show mO K h o L _ (mu (mu (mu av 2 (av 0)) 0 f) 0 f') = _; rw [mu_mu]; rfl) ?_
      refine g_aload_n F dX4_playable_39 0 rfl rfl ?_
      refine gf_X4_69_X4 (v := .int 0) F dX4_playable_40 mO_o rfl ?_
      refine g_if_ne (tgt := 58) F dX4_playable_43 (by decide) (fun c3 => absurd c3 (by decide)) (fun c3 => ?_)
      refine g_iinc (lv' := [(3, .int ((nI nn) + 1)), (0, .ref o), (1, .int (iv 8)), (2, .int (iv 9)), (4, .int a)]) (v := (nI nn) + 1) F dX4_playable_46 (k := 3) rfl rfl (by decide) rfl ?_
      refine g_aload_n F dX4_playable_49 1 rfl rfl ?_
      refine g_callV F dX4_playable_50 mi_X4_doGo q2568 q2570 qs56 gc_X4 mO_o (ct_X4_doGo (h := h) (iv := upd iv 7 0) (av := mu (mu av 2 (av 0)) 0 f') hN k2.1 k2.2) rfl rfl (nle rfl) (nle rfl) (nle rfl) (g_pur ?_) g_purX
      refine g_istore (lv' := [(4, .int (xRet (xGo f' nc nh nq))), (3, .int ((nI nn) + 1)), (0, .ref o), (1, .int (iv 8)), (2, .int (iv 9))]) F dX4_playable_53 (by decide) rfl ?_
      refine g_goto (tgt := 39) F dX4_playable_55 (by decide) ?_
      refine g_lv (lv' := [(0, .ref o), (1, .int (iv 8)), (2, .int (iv 9)), (3, .int ((nI nn) + 1)), (4, .int (xRet (xGo f' nc nh nq)))]) [2, 3, 4, 1, 0] rfl ?_
      exact g_eql (lv' := [(0, .ref o), (1, .int (iv 8)), (2, .int (iv 9)), (3, .int (nI ((nn + 1)))), (4, .int (xRet (xGo f' nc nh nq)))]) (by simp only [nI_1]) (ih (xAh f' nq) (by omega) f' (nn + 1) _ (Nat.le_refl _) k2.1 k2.2 hzf' hn')
    · have hok := xGo_ok pp d hr
      rw [qPl_r hr] at hn
      refine g_aload_n F dX4_playable_39 0 rfl rfl ?_
      refine gf_X4_69_X4 (v := .int ((xIv (upd iv 7 0) (.inr (pp, d))) 7)) F dX4_playable_40 mO_o rfl ?_
      refine g_eqs (st' := [.int (nI pp)]) (by rw [xIv_7]) ?_
      refine g_if_ne (tgt := 58) F dX4_playable_43 (by decide) (fun c4 => ?_) (fun c4 => absurd c4 (nI_ne0 (by omega) (by omega)))
      refine g_aload_n F dX4_playable_58 0 rfl rfl ?_
      refine gf_X4_16_X4 (v := .ref (L 2)) F dX4_playable_59 mO_o rfl ?_
      refine g_iconst (v := 0) F dX4_playable_62 rfl ?_
      refine g_aload_n F dX4_playable_63 0 rfl rfl ?_
      refine gf_X4_9_X4 (v := .ref (L 0)) F dX4_playable_64 mO_o rfl ?_
      refine g_iconst (v := 0) F dX4_playable_67 rfl ?_
      refine g_sipush (v := 131) F dX4_playable_68 rfl ?_
      refine g_mcopy hN 2 0 (n0 := 131) (n1 := 131) (a := 0) (b0 := 0) (k := 131) F ⟨q2345, q718, q717, q94⟩ (by decide) (by decide) (by decide) rfl rfl (mO_2 hN) (mO_0 hN) (nto (rfl : (0 : Int32) = nI 0) (show 0 = 0 by omega)) (nto (rfl : (0 : Int32) = nI 0) (show 0 = 0 by omega)) (nto (rfl : (131 : Int32) = nI 131) (show 131 = 131 by omega)) (by omega) (by omega) (by decide) (nle rfl) (nle rfl) dX4_playable_71 ?_
      refine g_aload_n F dX4_playable_74 0 rfl rfl ?_
      refine g_iconst (v := 0) F dX4_playable_75 rfl ?_
      refine gp_X4_69_X4 F dX4_playable_76 mO_o hN.1 (nle rfl) rfl (fun h_e6 e6 => ?_)
      refine g_mput (iv2 := upd (xIv (upd iv 7 0) (.inr (pp, d))) 7 0) e6 rfl ?_
      refine g_aload_n F dX4_playable_79 0 rfl rfl ?_
      refine g_iload_n F dX4_playable_80 1 rfl rfl ?_
      refine gp_X4_81_X4 F dX4_playable_81 mO_o hN.1 (nle rfl) rfl (fun h_e7 e7 => ?_)
      refine g_mput (iv2 := upd (upd (xIv (upd iv 7 0) (.inr (pp, d))) 7 0) 8 (iv 8)) e7 rfl ?_
      refine g_aload_n F dX4_playable_84 0 rfl rfl ?_
      refine g_iload_n F dX4_playable_85 2 rfl rfl ?_
      refine gp_X4_84_X4 F dX4_playable_86 mO_o hN.1 (nle rfl) rfl (fun h_e8 e8 => ?_)
      refine g_mput (iv2 := upd (upd (upd (xIv (upd iv 7 0) (.inr (pp, d))) 7 0) 8 (iv 8)) 9 (iv 9)) e8 rfl ?_
      refine g_iload_n F dX4_playable_89 3 rfl rfl ?_
      exact g_iret F dX4_playable_90 (⟨by rw [← hn]; rfl, by rw [xIv_789]; show mO K h o L _ (mu (mu (mu av 2 (av 0)) 0 f) 0 (va_cpy (av 0) f 0 0 131)) = _; rw [cpy_full hz.1 hzf, mu_mu]; exact congrArg (mO K h o L (upd iv 7 0)) (mu_id (av := mu av 2 (av 0)) (j := 0))⟩)
  refine g_eqh (h' := mO K h o L (xIv (upd iv 7 0) (xGo (av 0) nc nh nq)) (xAv (mu (mu av 2 (av 0)) 0 (av 0)) (xGo (av 0) nc nh nq))) (by rw [show mu (mu av 2 (av 0)) 0 (av 0) = mu av 2 (av 0) from mu_id (av := mu av 2 (av 0)) (j := 0)]; try rfl) ?_
  exact lp (xAh (av 0) nq) (av 0) 0 _ (Nat.le_refl _) hC hL hz.1 (Nat.zero_add _)
set_option maxHeartbeats 4000000 in
set_option maxRecDepth 100000 in
theorem ct_X4_meanHeight0 {K : gK} {h : AH} {o : Nat} {L : Nat → Nat} {iv : Nat → Int32} {av : Nat → Nat → Int32} (hN : mN K o L) {nb : Nat} (h1 : av 0 1 = nI nb) (hb : nb ≤ 8) (hnb : nb = 0) : gCt K yX4_meanHeight w_X4_meanHeight 1 22 0 0 (mO K h o L iv av) [.ref o] (pR (.double 0) (mO K h o L (upd iv 7 1) av)) := by
  refine g_meth pf_X4_meanHeight (nle rfl) (fun p e s m args below meth c F hnm htb => ?_)
  have F : gFix K p s m args meth c cX4_meanHeight 3 RX4 (some .double) := F
  refine g_eql (lv' := [(0, .ref o)]) rfl ?_
  refine g_iconst (v := 0) F dX4_meanHeight_0 rfl ?_
  refine g_istore_n (lv' := [(1, .int 0), (0, .ref o)]) F dX4_meanHeight_1 rfl (by decide) rfl ?_
  refine g_iconst (v := 0) F dX4_meanHeight_2 rfl ?_
  refine g_istore_n (lv' := [(2, .int 0), (1, .int 0), (0, .ref o)]) F dX4_meanHeight_3 rfl (by decide) rfl ?_
  refine g_lv (lv' := [(0, .ref o), (1, .int 0), (2, .int 0)]) [2, 1, 0] rfl ?_
  have lp : ∀ k, k ≤ nb → G K p e s m args below meth c (gRm 1 22 0 0) 3 (pR (.double 0) (mO K h o L (upd iv 7 1) av)) (mO K h o L iv av) 0 0 4 [(0, .ref o), (1, .int (mSum (fun k => av 0 (11 + 4 * k)) k)), (2, .int (nI k))] [] := by
    refine gloop nb (fun k hk ih => ?_)
    refine g_iload_n F dX4_meanHeight_4 2 rfl rfl ?_
    refine g_aload_n F dX4_meanHeight_5 0 rfl rfl ?_
    refine gf_X4_9_X4 (v := .ref (L 0)) F dX4_meanHeight_6 mO_o rfl ?_
    refine g_iconst (v := 1) F dX4_meanHeight_9 rfl ?_
    refine g_ialdN (i := 1) F (mO_0 hN) (rfl : (1 : Int32) = nI 1) (show 1 = 1 by omega) (by omega) (by decide) dX4_meanHeight_10 ?_
    refine g_eqs (st' := [.int (nI nb), .int (nI k)]) (by rw [h1]) ?_
    refine g_icmp_ge (tgt := 29) F dX4_meanHeight_11 (by decide) (fun c1 => ?_) (fun c1 => ?_)
    · have hkN : k = nb := gexit (by omega) hk c1
      subst hkN
      refine g_aload_n F dX4_meanHeight_29 0 rfl rfl ?_
      refine g_aload_n F dX4_meanHeight_30 0 rfl rfl ?_
      refine gf_X4_9_X4 (v := .ref (L 0)) F dX4_meanHeight_31 mO_o rfl ?_
      refine g_iconst (v := 1) F dX4_meanHeight_34 rfl ?_
      refine g_ialdN (i := 1) F (mO_0 hN) (rfl : (1 : Int32) = nI 1) (show 1 = 1 by omega) (by omega) (by decide) dX4_meanHeight_35 ?_
      refine g_if_ne (tgt := 43) F dX4_meanHeight_36 (by decide) (fun c2 => absurd (by rw [h1, hnb]; rfl) c2) (fun c2 => ?_)
      refine g_iconst (v := 1) F dX4_meanHeight_39 rfl ?_
      refine g_goto (tgt := 44) F dX4_meanHeight_40 (by decide) ?_
      refine gp_X4_69_X4 F dX4_meanHeight_44 mO_o hN.1 (nle rfl) rfl (fun h_e3 e3 => ?_)
      refine g_mput (iv2 := upd iv 7 1) e3 rfl ?_
      refine g_aload_n F dX4_meanHeight_47 0 rfl rfl ?_
      refine gf_X4_69_X4 (v := .int 1) F dX4_meanHeight_48 mO_o rfl ?_
      refine g_if_le (tgt := 58) F dX4_meanHeight_51 (by decide) (fun c4 => absurd c4 (by decide)) (fun c4 => ?_)
      refine g_dconst0 F dX4_meanHeight_54 ?_
      refine g_goto (tgt := 68) F dX4_meanHeight_55 (by decide) ?_
      exact g_dret F dX4_meanHeight_68 (⟨rfl, rfl⟩)
    · have hlt : k < nb := gbody (by omega) hk c1
      refine g_iload_n F dX4_meanHeight_14 1 rfl rfl ?_
      refine g_aload_n F dX4_meanHeight_15 0 rfl rfl ?_
      refine g_iload_n F dX4_meanHeight_16 2 rfl rfl ?_
      refine g_iconst (v := 0) F dX4_meanHeight_17 rfl ?_
      refine g_callV F dX4_meanHeight_18 mi_X4_bar1 q2373 q2375 qs30 gc_X4 mO_o (ct_X4_bar1 hN (i := 11 + 4 * k) (nto (nadd (nadd (rfl : (11 : Int32) = nI 11) (nmul (rfl : (4 : Int32) = nI 4) rfl)) (rfl : (0 : Int32) = nI 0)) (show ((11 + (4 * k)) + 0) = 11 + 4 * k by omega)) (by omega)) rfl rfl (nle rfl) (nle rfl) (nle rfl) (g_pur ?_) g_purX
      refine g_iadd F dX4_meanHeight_21 ?_
      refine g_istore_n (lv' := [(1, .int ((mSum (fun k => av 0 (11 + 4 * k)) k) + (av 0 (11 + 4 * k)))), (0, .ref o), (2, .int (nI k))]) F dX4_meanHeight_22 rfl (by decide) rfl ?_
      refine g_iinc (lv' := [(2, .int ((nI k) + 1)), (1, .int ((mSum (fun k => av 0 (11 + 4 * k)) k) + (av 0 (11 + 4 * k)))), (0, .ref o)]) (v := (nI k) + 1) F dX4_meanHeight_23 (k := 2) rfl rfl (by decide) rfl ?_
      refine g_goto (tgt := 4) F dX4_meanHeight_26 (by decide) ?_
      refine g_lv (lv' := [(0, .ref o), (1, .int ((mSum (fun k => av 0 (11 + 4 * k)) k) + (av 0 (11 + 4 * k)))), (2, .int ((nI k) + 1))]) [2, 1, 0] rfl ?_
      exact g_eql (lv' := [(0, .ref o), (1, .int (mSum (fun k => av 0 (11 + 4 * k)) (k + 1))), (2, .int (nI (k + 1)))]) (by simp [nI_1, mSum_s, *]) (ih hlt)
  exact lp 0 (Nat.zero_le _)
set_option maxHeartbeats 4000000 in
set_option maxRecDepth 100000 in
theorem ct_X4_meanHeightS {K : gK} {h : AH} {o : Nat} {L : Nat → Nat} {iv : Nat → Int32} {av : Nat → Nat → Int32} (hN : mN K o L) {nb : Nat} (h1 : av 0 1 = nI nb) (hb : nb ≤ 8) (hnb : nb ≠ 0) (hnan : nb ≠ 0 → vf_n64 (FP.ddiv (FP.i2d (mSum (fun k => av 0 (11 + 4 * k)) nb)) (FP.i2d (nI nb)))) : gCt K yX4_meanHeight w_X4_meanHeight 1 22 0 0 (mO K h o L iv av) [.ref o] (pR (.double (FP.ddiv (FP.i2d (mSum (fun k => av 0 (11 + 4 * k)) nb)) (FP.i2d (nI nb)))) (mO K h o L (upd iv 7 0) av)) := by
  refine g_meth pf_X4_meanHeight (nle rfl) (fun p e s m args below meth c F hnm htb => ?_)
  have F : gFix K p s m args meth c cX4_meanHeight 3 RX4 (some .double) := F
  refine g_eql (lv' := [(0, .ref o)]) rfl ?_
  refine g_iconst (v := 0) F dX4_meanHeight_0 rfl ?_
  refine g_istore_n (lv' := [(1, .int 0), (0, .ref o)]) F dX4_meanHeight_1 rfl (by decide) rfl ?_
  refine g_iconst (v := 0) F dX4_meanHeight_2 rfl ?_
  refine g_istore_n (lv' := [(2, .int 0), (1, .int 0), (0, .ref o)]) F dX4_meanHeight_3 rfl (by decide) rfl ?_
  refine g_lv (lv' := [(0, .ref o), (1, .int 0), (2, .int 0)]) [2, 1, 0] rfl ?_
  have lp : ∀ k, k ≤ nb → G K p e s m args below meth c (gRm 1 22 0 0) 3 (pR (.double (FP.ddiv (FP.i2d (mSum (fun k => av 0 (11 + 4 * k)) nb)) (FP.i2d (nI nb)))) (mO K h o L (upd iv 7 0) av)) (mO K h o L iv av) 0 0 4 [(0, .ref o), (1, .int (mSum (fun k => av 0 (11 + 4 * k)) k)), (2, .int (nI k))] [] := by
    refine gloop nb (fun k hk ih => ?_)
    refine g_iload_n F dX4_meanHeight_4 2 rfl rfl ?_
    refine g_aload_n F dX4_meanHeight_5 0 rfl rfl ?_
    refine gf_X4_9_X4 (v := .ref (L 0)) F dX4_meanHeight_6 mO_o rfl ?_
    refine g_iconst (v := 1) F dX4_meanHeight_9 rfl ?_
    refine g_ialdN (i := 1) F (mO_0 hN) (rfl : (1 : Int32) = nI 1) (show 1 = 1 by omega) (by omega) (by decide) dX4_meanHeight_10 ?_
    refine g_eqs (st' := [.int (nI nb), .int (nI k)]) (by rw [h1]) ?_
    refine g_icmp_ge (tgt := 29) F dX4_meanHeight_11 (by decide) (fun c1 => ?_) (fun c1 => ?_)
    · have hkN : k = nb := gexit (by omega) hk c1
      subst hkN
      refine g_aload_n F dX4_meanHeight_29 0 rfl rfl ?_
      refine g_aload_n F dX4_meanHeight_30 0 rfl rfl ?_
      refine gf_X4_9_X4 (v := .ref (L 0)) F dX4_meanHeight_31 mO_o rfl ?_
      refine g_iconst (v := 1) F dX4_meanHeight_34 rfl ?_
      refine g_ialdN (i := 1) F (mO_0 hN) (rfl : (1 : Int32) = nI 1) (show 1 = 1 by omega) (by omega) (by decide) dX4_meanHeight_35 ?_
      refine g_if_ne (tgt := 43) F dX4_meanHeight_36 (by decide) (fun c2 => ?_) (fun c2 => absurd c2 (by rw [h1]; exact nI_ne0 (by omega) (by omega)))
      refine g_iconst (v := 0) F dX4_meanHeight_43 rfl ?_
      refine gp_X4_69_X4 F dX4_meanHeight_44 mO_o hN.1 (nle rfl) rfl (fun h_e3 e3 => ?_)
      refine g_mput (iv2 := upd iv 7 0) e3 rfl ?_
      refine g_aload_n F dX4_meanHeight_47 0 rfl rfl ?_
      refine gf_X4_69_X4 (v := .int 0) F dX4_meanHeight_48 mO_o rfl ?_
      refine g_if_le (tgt := 58) F dX4_meanHeight_51 (by decide) (fun c4 => ?_) (fun c4 => absurd c4 (by decide))
      refine g_iload_n F dX4_meanHeight_58 1 rfl rfl ?_
      refine g_i2d F dX4_meanHeight_59 ?_
      refine g_aload_n F dX4_meanHeight_60 0 rfl rfl ?_
      refine gf_X4_9_X4 (v := .ref (L 0)) F dX4_meanHeight_61 mO_o rfl ?_
      refine g_iconst (v := 1) F dX4_meanHeight_64 rfl ?_
      refine g_ialdN (i := 1) F (mO_0 hN) (rfl : (1 : Int32) = nI 1) (show 1 = 1 by omega) (by omega) (by decide) dX4_meanHeight_65 ?_
      refine g_eqs (st' := [.int (nI k), .double (FP.i2d (mSum (fun k => av 0 (11 + 4 * k)) k))]) (by rw [h1]) ?_
      refine g_i2d F dX4_meanHeight_66 ?_
      refine g_ddiv F dX4_meanHeight_67 (hnan hnb) ?_
      exact g_dret F dX4_meanHeight_68 (⟨rfl, rfl⟩)
    · have hlt : k < nb := gbody (by omega) hk c1
      refine g_iload_n F dX4_meanHeight_14 1 rfl rfl ?_
      refine g_aload_n F dX4_meanHeight_15 0 rfl rfl ?_
      refine g_iload_n F dX4_meanHeight_16 2 rfl rfl ?_
      refine g_iconst (v := 0) F dX4_meanHeight_17 rfl ?_
      refine g_callV F dX4_meanHeight_18 mi_X4_bar1 q2373 q2375 qs30 gc_X4 mO_o (ct_X4_bar1 hN (i := 11 + 4 * k) (nto (nadd (nadd (rfl : (11 : Int32) = nI 11) (nmul (rfl : (4 : Int32) = nI 4) rfl)) (rfl : (0 : Int32) = nI 0)) (show ((11 + (4 * k)) + 0) = 11 + 4 * k by omega)) (by omega)) rfl rfl (nle rfl) (nle rfl) (nle rfl) (g_pur ?_) g_purX
      refine g_iadd F dX4_meanHeight_21 ?_
      refine g_istore_n (lv' := [(1, .int ((mSum (fun k => av 0 (11 + 4 * k)) k) + (av 0 (11 + 4 * k)))), (0, .ref o), (2, .int (nI k))]) F dX4_meanHeight_22 rfl (by decide) rfl ?_
      refine g_iinc (lv' := [(2, .int ((nI k) + 1)), (1, .int ((mSum (fun k => av 0 (11 + 4 * k)) k) + (av 0 (11 + 4 * k)))), (0, .ref o)]) (v := (nI k) + 1) F dX4_meanHeight_23 (k := 2) rfl rfl (by decide) rfl ?_
      refine g_goto (tgt := 4) F dX4_meanHeight_26 (by decide) ?_
      refine g_lv (lv' := [(0, .ref o), (1, .int ((mSum (fun k => av 0 (11 + 4 * k)) k) + (av 0 (11 + 4 * k)))), (2, .int ((nI k) + 1))]) [2, 1, 0] rfl ?_
      exact g_eql (lv' := [(0, .ref o), (1, .int (mSum (fun k => av 0 (11 + 4 * k)) (k + 1))), (2, .int (nI (k + 1)))]) (by simp [nI_1, mSum_s, *]) (ih hlt)
  exact lp 0 (Nat.zero_le _)
set_option maxHeartbeats 4000000 in
set_option maxRecDepth 100000 in
theorem ct_X4_balancedShare0 {K : gK} {h : AH} {o : Nat} {L : Nat → Nat} {iv : Nat → Int32} {av : Nat → Nat → Int32} (hN : mN K o L) {nb nc : Nat} (h1 : av 0 1 = nI nb) (hb : nb ≤ 8) (h2 : av 0 2 = nI nc) (hc : nc ≤ 12) (hnb : nb = 0) : gCt K yX4_balancedShare w_X4_balancedShare 0 0 0 0 (mO K h o L iv av) [.ref o] (pR (.float 0) (mO K h o L (upd iv 7 1) av)) := by
  refine g_meth pf_X4_balancedShare (nle rfl) (fun p e s m args below meth c F hnm htb => ?_)
  have F : gFix K p s m args meth c cX4_balancedShare 1 RX4 (some .float) := F
  refine g_eql (lv' := [(0, .ref o)]) rfl ?_
  refine g_aload_n F dX4_balancedShare_0 0 rfl rfl ?_
  refine g_aload_n F dX4_balancedShare_1 0 rfl rfl ?_
  refine gf_X4_9_X4 (v := .ref (L 0)) F dX4_balancedShare_2 mO_o rfl ?_
  refine g_iconst (v := 1) F dX4_balancedShare_5 rfl ?_
  refine g_ialdN (i := 1) F (mO_0 hN) (rfl : (1 : Int32) = nI 1) (show 1 = 1 by omega) (by omega) (by decide) dX4_balancedShare_6 ?_
  refine g_if_ne (tgt := 14) F dX4_balancedShare_7 (by decide) (fun c1 => absurd (by rw [h1, hnb]; rfl) c1) (fun c1 => ?_)
  refine g_iconst (v := 1) F dX4_balancedShare_10 rfl ?_
  refine g_goto (tgt := 15) F dX4_balancedShare_11 (by decide) ?_
  refine gp_X4_69_X4 F dX4_balancedShare_15 mO_o hN.1 (nle rfl) rfl (fun h_e2 e2 => ?_)
  refine g_mput (iv2 := upd iv 7 1) e2 rfl ?_
  refine g_aload_n F dX4_balancedShare_18 0 rfl rfl ?_
  refine gf_X4_69_X4 (v := .int 1) F dX4_balancedShare_19 mO_o rfl ?_
  refine g_if_le (tgt := 29) F dX4_balancedShare_22 (by decide) (fun c3 => absurd c3 (by decide)) (fun c3 => ?_)
  refine g_fconst0 F dX4_balancedShare_25 ?_
  refine g_goto (tgt := 49) F dX4_balancedShare_26 (by decide) ?_
  exact g_fret F dX4_balancedShare_49 (⟨rfl, rfl⟩)
set_option maxHeartbeats 4000000 in
set_option maxRecDepth 100000 in
theorem ct_X4_balancedShareS {K : gK} {h : AH} {o : Nat} {L : Nat → Nat} {iv : Nat → Int32} {av : Nat → Nat → Int32} (hN : mN K o L) {nb nc : Nat} (h1 : av 0 1 = nI nb) (hb : nb ≤ 8) (h2 : av 0 2 = nI nc) (hc : nc ≤ 12) (hnb : nb ≠ 0) (hnan : vf_n32 (FP.fdiv (FP.i2f (nI nb - mUnb (av 0) nc nb)) (FP.i2f (nI nb)))) : gCt K yX4_balancedShare w_X4_balancedShare 4 87 0 0 (mO K h o L iv av) [.ref o] (pR (.float (FP.fdiv (FP.i2f (nI nb - mUnb (av 0) nc nb)) (FP.i2f (nI nb)))) (mO K h o L (upd iv 7 0) av)) := by
  refine g_meth pf_X4_balancedShare (nle rfl) (fun p e s m args below meth c F hnm htb => ?_)
  have F : gFix K p s m args meth c cX4_balancedShare 1 RX4 (some .float) := F
  refine g_eql (lv' := [(0, .ref o)]) rfl ?_
  refine g_aload_n F dX4_balancedShare_0 0 rfl rfl ?_
  refine g_aload_n F dX4_balancedShare_1 0 rfl rfl ?_
  refine gf_X4_9_X4 (v := .ref (L 0)) F dX4_balancedShare_2 mO_o rfl ?_
  refine g_iconst (v := 1) F dX4_balancedShare_5 rfl ?_
  refine g_ialdN (i := 1) F (mO_0 hN) (rfl : (1 : Int32) = nI 1) (show 1 = 1 by omega) (by omega) (by decide) dX4_balancedShare_6 ?_
  refine g_if_ne (tgt := 14) F dX4_balancedShare_7 (by decide) (fun c1 => ?_) (fun c1 => absurd c1 (by rw [h1]; exact nI_ne0 (by omega) (by omega)))
  refine g_iconst (v := 0) F dX4_balancedShare_14 rfl ?_
  refine gp_X4_69_X4 F dX4_balancedShare_15 mO_o hN.1 (nle rfl) rfl (fun h_e2 e2 => ?_)
  refine g_mput (iv2 := upd iv 7 0) e2 rfl ?_
  refine g_aload_n F dX4_balancedShare_18 0 rfl rfl ?_
  refine gf_X4_69_X4 (v := .int 0) F dX4_balancedShare_19 mO_o rfl ?_
  refine g_if_le (tgt := 29) F dX4_balancedShare_22 (by decide) (fun c3 => ?_) (fun c3 => absurd c3 (by decide))
  refine g_aload_n F dX4_balancedShare_29 0 rfl rfl ?_
  refine gf_X4_9_X4 (v := .ref (L 0)) F dX4_balancedShare_30 mO_o rfl ?_
  refine g_iconst (v := 1) F dX4_balancedShare_33 rfl ?_
  refine g_ialdN (i := 1) F (mO_0 hN) (rfl : (1 : Int32) = nI 1) (show 1 = 1 by omega) (by omega) (by decide) dX4_balancedShare_34 ?_
  refine g_eqs (st' := [.int (nI nb)]) (congrArg (fun z => [Value.int z]) h1) ?_
  refine g_aload_n F dX4_balancedShare_35 0 rfl rfl ?_
  refine g_callV F dX4_balancedShare_36 mi_X4_unbalanced q2617 q2619 qs60 gc_X4 mO_o (ct_X4_unbalanced hN h1 hb h2 hc) rfl rfl (nle rfl) (nle rfl) (nle rfl) (g_pur ?_) g_purX
  refine g_isub F dX4_balancedShare_39 ?_
  refine g_i2f F dX4_balancedShare_40 ?_
  refine g_aload_n F dX4_balancedShare_41 0 rfl rfl ?_
  refine gf_X4_9_X4 (v := .ref (L 0)) F dX4_balancedShare_42 mO_o rfl ?_
  refine g_iconst (v := 1) F dX4_balancedShare_45 rfl ?_
  refine g_ialdN (i := 1) F (mO_0 hN) (rfl : (1 : Int32) = nI 1) (show 1 = 1 by omega) (by omega) (by decide) dX4_balancedShare_46 ?_
  refine g_eqs (st' := [.int (nI nb), .float (FP.i2f ((nI nb) - (mUnb (av 0) nc nb)))]) (congrArg (fun z => [Value.int z, .float (FP.i2f ((nI nb) - (mUnb (av 0) nc nb)))]) h1) ?_
  refine g_i2f F dX4_balancedShare_47 ?_
  refine g_fdiv F dX4_balancedShare_48 (hnan) ?_
  exact g_fret F dX4_balancedShare_49 (⟨rfl, rfl⟩)
