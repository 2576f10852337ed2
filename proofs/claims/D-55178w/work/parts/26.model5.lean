/-! ===== THE REFERENCE: clear, undo, snapshots (written by tools/model5.py) ===== -/
set_option maxHeartbeats 4000000 in
set_option maxRecDepth 100000 in
theorem ct_X4_bestAgain {K : gK} {h : AH} {o : Nat} {L : Nat → Nat} {iv : Nat → Int32} {av : Nat → Nat → Int32} (hN : mN K o L) {x : Int32} {nb nc nh nq : Nat} (hC : mC (av 0) nb nc nh nq) (hL : mL (av 0) nb nc nq) : gCt K yX4_bestAgain w_X4_bestAgain 4 91 0 0 (mO K h o L iv av) [.ref o, .int x] (pR (.int (qV (qBestB (av 0) nb nc x))) (mO K h o L (upd iv 7 (qP (qBestB (av 0) nb nc x))) av)) := by
  refine g_meth pf_X4_bestAgain (nle rfl) (fun p e s m args below meth c F hnm htb => ?_)
  have F : gFix K p s m args meth c cX4_bestAgain 2 RX4 (some .int) := F
  refine g_eql (lv' := [(0, .ref o), (1, .int x)]) rfl ?_
  refine g_aload_n F dX4_bestAgain_0 0 rfl rfl ?_
  refine g_iload_n F dX4_bestAgain_1 1 rfl rfl ?_
  refine g_callV F dX4_bestAgain_2 mi_X4_bestBar q2483 q2472 q2473 gc_X4 mO_o (ct_X4_bestBar hN hC hL) rfl rfl (nle rfl) (nle rfl) (nle rfl) (g_pur ?_) g_purX
  exact g_iret F dX4_bestAgain_5 (⟨rfl, rfl⟩)
set_option maxHeartbeats 4000000 in
set_option maxRecDepth 100000 in
theorem ct_X4_empties {K : gK} {h : AH} {o : Nat} {L : Nat → Nat} {iv : Nat → Int32} {av : Nat → Nat → Int32} (hN : mN K o L) (hz0 : ∀ j, 131 ≤ j → av 0 j = 0) : gCt K yX4_empties w_X4_empties 0 0 0 0 (mO K h o L iv av) [.ref o] (pV (mO K h o L iv (mu av 0 x0))) := by
  refine g_meth pf_X4_empties (nle rfl) (fun p e s m args below meth c F hnm htb => ?_)
  have F : gFix K p s m args meth c cX4_empties 2 RX4 none := F
  refine g_eql (lv' := [(0, .ref o)]) rfl ?_
  refine g_iconst (v := 0) F dX4_empties_0 rfl ?_
  refine g_istore_n (lv' := [(1, .int 0), (0, .ref o)]) F dX4_empties_1 rfl (by decide) rfl ?_
  refine g_eqh (h' := mO K h o L iv (mu av 0 (xZ (av 0) 0))) (by rw [xZ_0, mu_id]) ?_
  refine g_lv (lv' := [(0, .ref o), (1, .int 0)]) [1, 0] rfl ?_
  have lp : ∀ k, k ≤ 131 → G K p e s m args below meth c (gRm 0 0 0 0) 2 (pV (mO K h o L iv (mu av 0 x0))) (mO K h o L iv (mu av 0 (xZ (av 0) k))) 0 0 2 [(0, .ref o), (1, .int (nI k))] [] := by
    refine gloop 131 (fun k hk ih => ?_)
    refine g_iload_n F dX4_empties_2 1 rfl rfl ?_
    refine g_sipush (v := 131) F dX4_empties_3 rfl ?_
    refine g_icmp_ge (tgt := 22) F dX4_empties_6 (by decide) (fun c1 => ?_) (fun c1 => ?_)
    · have hkN : k = 131 := gexit (N := 131) (by decide) hk c1
      subst hkN
      refine g_aload_n F dX4_empties_22 0 rfl rfl ?_
      refine gf_X4_9_X4 (v := .ref (L 0)) F dX4_empties_23 mO_o rfl ?_
      refine g_iconst (v := 5) F dX4_empties_26 rfl ?_
      refine g_bipush (v := 15) F dX4_empties_27 rfl ?_
      refine g_miast hN 0 (n := 131) (i := 5) F (by decide) (by decide) rfl (mO_0 hN) (rfl : (5 : Int32) = nI 5) (show 5 = 5 by omega) (by omega) (by decide) dX4_empties_29 ?_
      refine g_eqh (h' := (mO K h o L iv (mu av 0 (upd (xZ (av 0) 131) 5 15)))) (by simp only [mu_s, mu_mu]; try rfl) ?_
      refine g_aload_n F dX4_empties_30 0 rfl rfl ?_
      refine gf_X4_9_X4 (v := .ref (L 0)) F dX4_empties_31 mO_o rfl ?_
      refine g_bipush (v := 6) F dX4_empties_34 rfl ?_
      refine g_bipush (v := 40) F dX4_empties_36 rfl ?_
      refine g_miast hN 0 (n := 131) (i := 6) F (by decide) (by decide) rfl (mO_0 hN) (rfl : (6 : Int32) = nI 6) (show 6 = 6 by omega) (by omega) (by decide) dX4_empties_38 ?_
      refine g_eqh (h' := (mO K h o L iv (mu av 0 (upd (upd (xZ (av 0) 131) 5 15) 6 40)))) (by simp only [mu_s, mu_mu]; try rfl) ?_
      refine g_aload_n F dX4_empties_39 0 rfl rfl ?_
      refine gf_X4_9_X4 (v := .ref (L 0)) F dX4_empties_40 mO_o rfl ?_
      refine g_bipush (v := 7) F dX4_empties_43 rfl ?_
      refine g_iconst (v := (-1)) F dX4_empties_45 rfl ?_
      refine g_miast hN 0 (n := 131) (i := 7) F (by decide) (by decide) rfl (mO_0 hN) (rfl : (7 : Int32) = nI 7) (show 7 = 7 by omega) (by omega) (by decide) dX4_empties_46 ?_
      refine g_eqh (h' := (mO K h o L iv (mu av 0 (upd (upd (upd (xZ (av 0) 131) 5 15) 6 40) 7 (-1))))) (by simp only [mu_s, mu_mu]; try rfl) ?_
      exact g_vret F dX4_empties_47 (⟨rfl, by simp only [mu_s, mu_mu, xZ_x0 hz0]⟩)
    · have hlt : k < 131 := gbody (N := 131) (by decide) hk c1
      refine g_aload_n F dX4_empties_9 0 rfl rfl ?_
      refine gf_X4_9_X4 (v := .ref (L 0)) F dX4_empties_10 mO_o rfl ?_
      refine g_iload_n F dX4_empties_13 1 rfl rfl ?_
      refine g_iconst (v := 0) F dX4_empties_14 rfl ?_
      refine g_miast hN 0 (n := 131) (i := k) F (by decide) (by decide) rfl (mO_0 hN) rfl (show k = k by omega) (by omega) (by decide) dX4_empties_15 ?_
      refine g_eqh (h' := (mO K h o L iv (mu av 0 (upd (xZ (av 0) k) k 0)))) (by simp only [mu_s, mu_mu]; try rfl) ?_
      refine g_eqh (h' := mO K h o L iv (mu av 0 (xZ (av 0) (k + 1)))) (by simp only [mu_s, mu_mu, xZ_s]) ?_
      refine g_iinc (lv' := [(1, .int ((nI k) + 1)), (0, .ref o)]) (v := (nI k) + 1) F dX4_empties_16 (k := 1) rfl rfl (by decide) rfl ?_
      refine g_goto (tgt := 2) F dX4_empties_19 (by decide) ?_
      refine g_lv (lv' := [(0, .ref o), (1, .int ((nI k) + 1))]) [1, 0] rfl ?_
      exact g_eql (lv' := [(0, .ref o), (1, .int (nI (k + 1)))]) (by simp only [nI_1]) (ih hlt)
  exact lp 0 (Nat.zero_le _)
set_option maxHeartbeats 4000000 in
set_option maxRecDepth 100000 in
theorem ct_X4_clear {K : gK} {h : AH} {o : Nat} {L : Nat → Nat} {iv : Nat → Int32} {av : Nat → Nat → Int32} (hN : mN K o L) (hz : mZ av) : gCt K yX4_clear w_X4_clear 1 21 0 0 (mO K h o L iv av) [.ref o] (pR (.int (av 0 4)) (mO K h o L (upd (upd iv 7 0) 6 0) (mu av 0 x0))) := by
  refine g_meth pf_X4_clear (nle rfl) (fun p e s m args below meth c F hnm htb => ?_)
  have F : gFix K p s m args meth c cX4_clear 2 RX4 (some .int) := F
  refine g_eql (lv' := [(0, .ref o)]) rfl ?_
  refine g_aload_n F dX4_clear_0 0 rfl rfl ?_
  refine g_iconst (v := 0) F dX4_clear_1 rfl ?_
  refine gp_X4_69_X4 F dX4_clear_2 mO_o hN.1 (nle rfl) rfl (fun h_e1 e1 => ?_)
  refine g_mput (iv2 := upd iv 7 0) e1 rfl ?_
  refine g_aload_n F dX4_clear_5 0 rfl rfl ?_
  refine gf_X4_9_X4 (v := .ref (L 0)) F dX4_clear_6 mO_o rfl ?_
  refine g_iconst (v := 4) F dX4_clear_9 rfl ?_
  refine g_ialdN (i := 4) F (mO_0 hN) (rfl : (4 : Int32) = nI 4) (show 4 = 4 by omega) (by omega) (by decide) dX4_clear_10 ?_
  refine g_istore_n (lv' := [(1, .int (av 0 4)), (0, .ref o)]) F dX4_clear_11 rfl (by decide) rfl ?_
  refine g_aload_n F dX4_clear_12 1 rfl rfl ?_
  refine g_callV F dX4_clear_13 mi_X4_empties q2255 q2257 qs24 gc_X4 mO_o (ct_X4_empties hN hz.1) rfl rfl (nle rfl) (nle rfl) (nle rfl) (g_purv ?_) g_purvX
  refine g_aload_n F dX4_clear_16 1 rfl rfl ?_
  refine g_iconst (v := 0) F dX4_clear_17 rfl ?_
  refine gp_X4_78_X4 F dX4_clear_18 mO_o hN.1 (nle rfl) rfl (fun h_e2 e2 => ?_)
  refine g_mput (iv2 := upd (upd iv 7 0) 6 0) e2 rfl ?_
  refine g_iload_n F dX4_clear_21 0 rfl rfl ?_
  exact g_iret F dX4_clear_22 (⟨rfl, rfl⟩)
set_option maxHeartbeats 4000000 in
set_option maxRecDepth 100000 in
theorem ct_X4_undo0 {K : gK} {h : AH} {o : Nat} {L : Nat → Nat} {iv : Nat → Int32} {av : Nat → Nat → Int32} (hN : mN K o L) (h6 : iv 6 = 0) : gCt K yX4_undo w_X4_undo 0 0 0 0 (mO K h o L iv av) [.ref o] (pR (.int 0) (mO K h o L (upd iv 7 1) av)) := by
  refine g_meth pf_X4_undo (nle rfl) (fun p e s m args below meth c F hnm htb => ?_)
  have F : gFix K p s m args meth c cX4_undo 1 RX4 (some .int) := F
  refine g_eql (lv' := [(0, .ref o)]) rfl ?_
  refine g_aload_n F dX4_undo_0 0 rfl rfl ?_
  refine g_aload_n F dX4_undo_1 0 rfl rfl ?_
  refine gf_X4_78_X4 (v := .int (iv 6)) F dX4_undo_2 mO_o rfl ?_
  refine g_if_ne (tgt := 12) F dX4_undo_5 (by decide) (fun c1 => absurd h6 c1) (fun c1 => ?_)
  refine g_iconst (v := 1) F dX4_undo_8 rfl ?_
  refine g_goto (tgt := 13) F dX4_undo_9 (by decide) ?_
  refine gp_X4_69_X4 F dX4_undo_13 mO_o hN.1 (nle rfl) rfl (fun h_e2 e2 => ?_)
  refine g_mput (iv2 := upd iv 7 1) e2 rfl ?_
  refine g_aload_n F dX4_undo_16 0 rfl rfl ?_
  refine gf_X4_69_X4 (v := .int 1) F dX4_undo_17 mO_o rfl ?_
  refine g_if_le (tgt := 25) F dX4_undo_20 (by decide) (fun c3 => absurd c3 (by decide)) (fun c3 => ?_)
  refine g_iconst (v := 0) F dX4_undo_23 rfl ?_
  exact g_iret F dX4_undo_24 (⟨rfl, rfl⟩)
set_option maxHeartbeats 4000000 in
set_option maxRecDepth 100000 in
theorem ct_X4_undoS {K : gK} {h : AH} {o : Nat} {L : Nat → Nat} {iv : Nat → Int32} {av : Nat → Nat → Int32} (hN : mN K o L) {n : Nat} (h6 : iv 6 = nI (n + 1)) (hn : n < 8) : gCt K yX4_undo w_X4_undo 1 40 0 0 (mO K h o L iv av) [.ref o] (pR (.int (nI n)) (mO K h o L (upd (upd iv 7 0) 6 (nI n)) (mu av 0 (va_cpy (av 5) (av 0) (131 * n) 0 131)))) := by
  refine g_meth pf_X4_undo (nle rfl) (fun p e s m args below meth c F hnm htb => ?_)
  have F : gFix K p s m args meth c cX4_undo 1 RX4 (some .int) := F
  refine g_eql (lv' := [(0, .ref o)]) rfl ?_
  refine g_aload_n F dX4_undo_0 0 rfl rfl ?_
  refine g_aload_n F dX4_undo_1 0 rfl rfl ?_
  refine gf_X4_78_X4 (v := .int (iv 6)) F dX4_undo_2 mO_o rfl ?_
  refine g_if_ne (tgt := 12) F dX4_undo_5 (by decide) (fun c1 => ?_) (fun c1 => absurd c1 (by rw [h6]; exact nI_ne0 (by omega) (by omega)))
  refine g_iconst (v := 0) F dX4_undo_12 rfl ?_
  refine gp_X4_69_X4 F dX4_undo_13 mO_o hN.1 (nle rfl) rfl (fun h_e2 e2 => ?_)
  refine g_mput (iv2 := upd iv 7 0) e2 rfl ?_
  refine g_aload_n F dX4_undo_16 0 rfl rfl ?_
  refine gf_X4_69_X4 (v := .int 0) F dX4_undo_17 mO_o rfl ?_
  refine g_if_le (tgt := 25) F dX4_undo_20 (by decide) (fun c3 => ?_) (fun c3 => absurd c3 (by decide))
  refine g_aload_n F dX4_undo_25 0 rfl rfl ?_
  refine g_dup F dX4_undo_26 rfl ?_
  refine gf_X4_78_X4 (v := .int (iv 6)) F dX4_undo_27 mO_o rfl ?_
  refine g_iconst (v := 1) F dX4_undo_30 rfl ?_
  refine g_isub F dX4_undo_31 ?_
  refine gp_X4_78_X4 F dX4_undo_32 mO_o hN.1 (nle rfl) rfl (fun h_e4 e4 => ?_)
  refine g_mput (iv2 := upd (upd iv 7 0) 6 ((iv 6) - 1)) e4 rfl ?_
  refine g_aload_n F dX4_undo_35 0 rfl rfl ?_
  refine gf_X4_22_X4 (v := .ref (L 5)) F dX4_undo_36 mO_o rfl ?_
  refine g_sipush (v := 131) F dX4_undo_39 rfl ?_
  refine g_aload_n F dX4_undo_42 0 rfl rfl ?_
  refine gf_X4_78_X4 (v := .int ((iv 6) - 1)) F dX4_undo_43 mO_o rfl ?_
  refine g_eqs (st' := [.int (nI n), .int 131, .ref (L 5)]) (by rw [h6, nI_pred]) ?_
  refine g_imul F dX4_undo_46 ?_
  refine g_aload_n F dX4_undo_47 0 rfl rfl ?_
  refine gf_X4_9_X4 (v := .ref (L 0)) F dX4_undo_48 mO_o rfl ?_
  refine g_iconst (v := 0) F dX4_undo_51 rfl ?_
  refine g_sipush (v := 131) F dX4_undo_52 rfl ?_
  refine g_mcopy hN 5 0 (n0 := 1048) (n1 := 131) (a := 131 * n) (b0 := 0) (k := 131) F ⟨q2345, q718, q717, q94⟩ (by decide) (by decide) (by decide) rfl rfl (mO_5 hN) (mO_0 hN) (nto (nmul (rfl : (131 : Int32) = nI 131) rfl) (show (131 * n) = 131 * n by omega)) (nto (rfl : (0 : Int32) = nI 0) (show 0 = 0 by omega)) (nto (rfl : (131 : Int32) = nI 131) (show 131 = 131 by omega)) (by omega) (by omega) (by decide) (nle rfl) (nle rfl) dX4_undo_55 ?_
  refine g_aload_n F dX4_undo_58 0 rfl rfl ?_
  refine gf_X4_78_X4 (v := .int ((iv 6) - 1)) F dX4_undo_59 mO_o rfl ?_
  refine g_eqs (st' := [.int (nI n)]) (by rw [h6, nI_pred]) ?_
  exact g_iret F dX4_undo_62 (⟨rfl, by rw [h6, nI_pred]⟩)
set_option maxHeartbeats 4000000 in
set_option maxRecDepth 100000 in
theorem ct_X4_snapshot {K : gK} {h : AH} {o : Nat} {L : Nat → Nat} {iv : Nat → Int32} {av : Nat → Nat → Int32} (hN : mN K o L) (hz : mZ av) : gCt K yX4_snapshot w_X4_snapshot 1 40 0 0 (mO K h o L iv av) [.ref o] (pR (.int (av 0 0)) (mO K h o L (upd (upd iv 7 0) 4 1) (mu av 3 (av 0)))) := by
  refine g_meth pf_X4_snapshot (nle rfl) (fun p e s m args below meth c F hnm htb => ?_)
  have F : gFix K p s m args meth c cX4_snapshot 1 RX4 (some .int) := F
  refine g_eql (lv' := [(0, .ref o)]) rfl ?_
  refine g_aload_n F dX4_snapshot_0 0 rfl rfl ?_
  refine g_iconst (v := 0) F dX4_snapshot_1 rfl ?_
  refine gp_X4_69_X4 F dX4_snapshot_2 mO_o hN.1 (nle rfl) rfl (fun h_e1 e1 => ?_)
  refine g_mput (iv2 := upd iv 7 0) e1 rfl ?_
  refine g_aload_n F dX4_snapshot_5 0 rfl rfl ?_
  refine gf_X4_9_X4 (v := .ref (L 0)) F dX4_snapshot_6 mO_o rfl ?_
  refine g_iconst (v := 0) F dX4_snapshot_9 rfl ?_
  refine g_aload_n F dX4_snapshot_10 0 rfl rfl ?_
  refine gf_X4_19_X4 (v := .ref (L 3)) F dX4_snapshot_11 mO_o rfl ?_
  refine g_iconst (v := 0) F dX4_snapshot_14 rfl ?_
  refine g_sipush (v := 131) F dX4_snapshot_15 rfl ?_
  refine g_mcopy hN 0 3 (n0 := 131) (n1 := 131) (a := 0) (b0 := 0) (k := 131) F ⟨q2345, q718, q717, q94⟩ (by decide) (by decide) (by decide) rfl rfl (mO_0 hN) (mO_3 hN) (nto (rfl : (0 : Int32) = nI 0) (show 0 = 0 by omega)) (nto (rfl : (0 : Int32) = nI 0) (show 0 = 0 by omega)) (nto (rfl : (131 : Int32) = nI 131) (show 131 = 131 by omega)) (by omega) (by omega) (by decide) (nle rfl) (nle rfl) dX4_snapshot_18 ?_
  refine g_aload_n F dX4_snapshot_21 0 rfl rfl ?_
  refine g_iconst (v := 1) F dX4_snapshot_22 rfl ?_
  refine gp_X4_289_X4 F dX4_snapshot_23 (by first | rfl | decide | (split <;> rfl)) (by first | rfl | decide | (split <;> rfl)) mO_o hN.1 (nle rfl) rfl (fun h_e3 e3 => ?_)
  refine g_mput (iv2 := upd (upd iv 7 0) 4 1) e3 rfl ?_
  refine g_aload_n F dX4_snapshot_26 0 rfl rfl ?_
  refine gf_X4_9_X4 (v := .ref (L 0)) F dX4_snapshot_27 mO_o rfl ?_
  refine g_iconst (v := 0) F dX4_snapshot_30 rfl ?_
  refine g_ialdN (i := 0) F (mO_0 hN) (rfl : (0 : Int32) = nI 0) (show 0 = 0 by omega) (by omega) (by decide) dX4_snapshot_31 ?_
  exact g_iret F dX4_snapshot_32 (⟨rfl, by rw [cpy_full hz.1 hz.2.2.2.1]⟩)
set_option maxHeartbeats 4000000 in
set_option maxRecDepth 100000 in
theorem ct_X4_restore0 {K : gK} {h : AH} {o : Nat} {L : Nat → Nat} {iv : Nat → Int32} {av : Nat → Nat → Int32} (hN : mN K o L) (h4 : iv 4 = 0) : gCt K yX4_restore w_X4_restore 0 0 0 0 (mO K h o L iv av) [.ref o] (pR (.int 0) (mO K h o L (upd iv 7 1) av)) := by
  refine g_meth pf_X4_restore (nle rfl) (fun p e s m args below meth c F hnm htb => ?_)
  have F : gFix K p s m args meth c cX4_restore 1 RX4 (some .int) := F
  refine g_eql (lv' := [(0, .ref o)]) rfl ?_
  refine g_aload_n F dX4_restore_0 0 rfl rfl ?_
  refine g_aload_n F dX4_restore_1 0 rfl rfl ?_
  refine gf_X4_289_X4 (v := .int (iv 4)) F dX4_restore_2 mO_o rfl ?_
  refine g_if_eq (tgt := 12) F dX4_restore_5 (by decide) (fun c1 => ?_) (fun c1 => absurd h4 c1)
  refine g_iconst (v := 1) F dX4_restore_12 rfl ?_
  refine gp_X4_69_X4 F dX4_restore_13 mO_o hN.1 (nle rfl) rfl (fun h_e2 e2 => ?_)
  refine g_mput (iv2 := upd iv 7 1) e2 rfl ?_
  refine g_aload_n F dX4_restore_16 0 rfl rfl ?_
  refine gf_X4_69_X4 (v := .int 1) F dX4_restore_17 mO_o rfl ?_
  refine g_if_le (tgt := 25) F dX4_restore_20 (by decide) (fun c3 => absurd c3 (by decide)) (fun c3 => ?_)
  refine g_iconst (v := 0) F dX4_restore_23 rfl ?_
  exact g_iret F dX4_restore_24 (⟨rfl, rfl⟩)
set_option maxHeartbeats 4000000 in
set_option maxRecDepth 100000 in
theorem ct_X4_restore1 {K : gK} {h : AH} {o : Nat} {L : Nat → Nat} {iv : Nat → Int32} {av : Nat → Nat → Int32} (hN : mN K o L) (hz : mZ av) (h4 : iv 4 = 1) : gCt K yX4_restore w_X4_restore 1 40 0 0 (mO K h o L iv av) [.ref o] (pR (.int (av 3 0)) (mO K h o L (upd (upd iv 7 0) 6 0) (mu av 0 (av 3)))) := by
  refine g_meth pf_X4_restore (nle rfl) (fun p e s m args below meth c F hnm htb => ?_)
  have F : gFix K p s m args meth c cX4_restore 1 RX4 (some .int) := F
  refine g_eql (lv' := [(0, .ref o)]) rfl ?_
  refine g_aload_n F dX4_restore_0 0 rfl rfl ?_
  refine g_aload_n F dX4_restore_1 0 rfl rfl ?_
  refine gf_X4_289_X4 (v := .int (iv 4)) F dX4_restore_2 mO_o rfl ?_
  refine g_if_eq (tgt := 12) F dX4_restore_5 (by decide) (fun c1 => absurd (h4.symm.trans c1) (by decide)) (fun c1 => ?_)
  refine g_iconst (v := 0) F dX4_restore_8 rfl ?_
  refine g_goto (tgt := 13) F dX4_restore_9 (by decide) ?_
  refine gp_X4_69_X4 F dX4_restore_13 mO_o hN.1 (nle rfl) rfl (fun h_e2 e2 => ?_)
  refine g_mput (iv2 := upd iv 7 0) e2 rfl ?_
  refine g_aload_n F dX4_restore_16 0 rfl rfl ?_
  refine gf_X4_69_X4 (v := .int 0) F dX4_restore_17 mO_o rfl ?_
  refine g_if_le (tgt := 25) F dX4_restore_20 (by decide) (fun c3 => ?_) (fun c3 => absurd c3 (by decide))
  refine g_aload_n F dX4_restore_25 0 rfl rfl ?_
  refine gf_X4_19_X4 (v := .ref (L 3)) F dX4_restore_26 mO_o rfl ?_
  refine g_iconst (v := 0) F dX4_restore_29 rfl ?_
  refine g_aload_n F dX4_restore_30 0 rfl rfl ?_
  refine gf_X4_9_X4 (v := .ref (L 0)) F dX4_restore_31 mO_o rfl ?_
  refine g_iconst (v := 0) F dX4_restore_34 rfl ?_
  refine g_sipush (v := 131) F dX4_restore_35 rfl ?_
  refine g_mcopy hN 3 0 (n0 := 131) (n1 := 131) (a := 0) (b0 := 0) (k := 131) F ⟨q2345, q718, q717, q94⟩ (by decide) (by decide) (by decide) rfl rfl (mO_3 hN) (mO_0 hN) (nto (rfl : (0 : Int32) = nI 0) (show 0 = 0 by omega)) (nto (rfl : (0 : Int32) = nI 0) (show 0 = 0 by omega)) (nto (rfl : (131 : Int32) = nI 131) (show 131 = 131 by omega)) (by omega) (by omega) (by decide) (nle rfl) (nle rfl) dX4_restore_38 ?_
  refine g_aload_n F dX4_restore_41 0 rfl rfl ?_
  refine g_iconst (v := 0) F dX4_restore_42 rfl ?_
  refine gp_X4_78_X4 F dX4_restore_43 mO_o hN.1 (nle rfl) rfl (fun h_e5 e5 => ?_)
  refine g_mput (iv2 := upd (upd iv 7 0) 6 0) e5 rfl ?_
  refine g_aload_n F dX4_restore_46 0 rfl rfl ?_
  refine gf_X4_9_X4 (v := .ref (L 0)) F dX4_restore_47 mO_o rfl ?_
  refine g_iconst (v := 0) F dX4_restore_50 rfl ?_
  refine g_ialdN (i := 0) F (mO_0 hN) (rfl : (0 : Int32) = nI 0) (show 0 = 0 by omega) (by omega) (by decide) dX4_restore_51 ?_
  exact g_iret F dX4_restore_52 (⟨by simp only [mu_s, cpy_full hz.2.2.2.1 hz.1], by rw [cpy_full hz.2.2.2.1 hz.1]⟩)
