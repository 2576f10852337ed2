/-! ===== THE REFERENCE: its calls (written by tools/model2.py) ===== -/
theorem ct_X4_keepZ {K : gK} {h : AH} {o : Nat} {L : Nat → Nat} {iv : Nat → Int32} {av : Nat → Nat → Int32} (hN : mN K o L) (hz : mZ av) : gCt K yX4_keep w_X4_keep 1 40 0 0 (mO K h o L iv av) [.ref o] (pV (mO K h o L (upd iv 7 0) (mu av 1 (av 0)))) := by
  have t := ct_X4_keep (h := h) (iv := iv) (av := av) hN
  rw [cpy_full hz.1 hz.2.1] at t
  exact t

set_option maxHeartbeats 4000000 in
set_option maxRecDepth 100000 in
theorem ct_X4_endsX {K : gK} {h : AH} {o : Nat} {L : Nat → Nat} {iv : Nat → Int32} {av : Nat → Nat → Int32} (hN : mN K o L) {x : Int32} {p : Nat} (h7 : iv 7 = nI p) (hp : 1 ≤ p ∧ p ≤ 3) : gCt K yX4_ends w_X4_ends 1 40 0 0 (mO K h o L iv av) [.ref o, .int x] (pR (.int 0) (mO K h o L iv (mu av 0 (va_cpy (av 1) (av 0) 0 0 131)))) := by
  refine g_meth pf_X4_ends (nle rfl) (fun p e s m args below meth c F hnm htb => ?_)
  have F : gFix K p s m args meth c cX4_ends 2 RX4 (some .int) := F
  refine g_eql (lv' := [(0, .ref o), (1, .int x)]) rfl ?_
  refine g_aload_n F dX4_ends_0 0 rfl rfl ?_
  refine gf_X4_69_X4 (v := .int (iv 7)) F dX4_ends_1 mO_o rfl ?_
  refine g_if_le (tgt := 25) F dX4_ends_4 (by decide) (fun c1 => by rw [h7] at c1; exact absurd c1 (nI_nle (by omega) (by omega))) (fun c1 => ?_)
  refine g_aload_n F dX4_ends_7 0 rfl rfl ?_
  refine gf_X4_13_X4 (v := .ref (L 1)) F dX4_ends_8 mO_o rfl ?_
  refine g_iconst (v := 0) F dX4_ends_11 rfl ?_
  refine g_aload_n F dX4_ends_12 0 rfl rfl ?_
  refine gf_X4_9_X4 (v := .ref (L 0)) F dX4_ends_13 mO_o rfl ?_
  refine g_iconst (v := 0) F dX4_ends_16 rfl ?_
  refine g_sipush (v := 131) F dX4_ends_17 rfl ?_
  refine g_mcopy hN 1 0 (n0 := 131) (n1 := 131) (a := 0) (b0 := 0) (k := 131) F ⟨q2345, q718, q717, q94⟩ (by decide) (by decide) (by decide) rfl rfl (mO_1 hN) (mO_0 hN) (nto (rfl : (0 : Int32) = nI 0) (show 0 = 0 by omega)) (nto (rfl : (0 : Int32) = nI 0) (show 0 = 0 by omega)) (nto (rfl : (131 : Int32) = nI 131) (show 131 = 131 by omega)) (by omega) (by omega) (by decide) (nle rfl) (nle rfl) dX4_ends_20 ?_
  refine g_iconst (v := 0) F dX4_ends_23 rfl ?_
  exact g_iret F dX4_ends_24 (⟨rfl, rfl⟩)
set_option maxHeartbeats 4000000 in
set_option maxRecDepth 100000 in
theorem ct_X4_endsA {K : gK} {h : AH} {o : Nat} {L : Nat → Nat} {iv : Nat → Int32} {av : Nat → Nat → Int32} (hN : mN K o L) {x : Int32} (h7 : iv 7 = 0) {np : Nat} (h6 : iv 6 = nI np) (hp : np < 8) : gCt K yX4_ends w_X4_ends 1 40 0 0 (mO K h o L iv av) [.ref o, .int x] (pR (.int x) (mO K h o L (upd iv 6 (nI (np + 1))) (mu av 5 (va_cpy (av 1) (av 5) 0 (131 * np) 131)))) := by
  refine g_meth pf_X4_ends (nle rfl) (fun p e s m args below meth c F hnm htb => ?_)
  have F : gFix K p s m args meth c cX4_ends 2 RX4 (some .int) := F
  refine g_eql (lv' := [(0, .ref o), (1, .int x)]) rfl ?_
  refine g_aload_n F dX4_ends_0 0 rfl rfl ?_
  refine gf_X4_69_X4 (v := .int (iv 7)) F dX4_ends_1 mO_o rfl ?_
  refine g_if_le (tgt := 25) F dX4_ends_4 (by decide) (fun c1 => ?_) (fun c1 => absurd (by rw [h7]; exact Int32.le_refl 0) c1)
  refine g_aload_n F dX4_ends_25 0 rfl rfl ?_
  refine gf_X4_78_X4 (v := .int (iv 6)) F dX4_ends_26 mO_o rfl ?_
  refine g_eqs (st' := [.int (nI np)]) (by rw [h6]; try rfl) ?_
  refine g_bipush (v := 8) F dX4_ends_29 rfl ?_
  refine g_icmp_ne (tgt := 62) F dX4_ends_31 (by decide) (fun c2 => ?_) (fun c2 => absurd ((nI_eq (by omega) (by decide)).mp (show nI np = nI 8 from c2)) (by omega))
  refine g_aload_n F dX4_ends_62 0 rfl rfl ?_
  refine gf_X4_13_X4 (v := .ref (L 1)) F dX4_ends_63 mO_o rfl ?_
  refine g_iconst (v := 0) F dX4_ends_66 rfl ?_
  refine g_aload_n F dX4_ends_67 0 rfl rfl ?_
  refine gf_X4_22_X4 (v := .ref (L 5)) F dX4_ends_68 mO_o rfl ?_
  refine g_sipush (v := 131) F dX4_ends_71 rfl ?_
  refine g_aload_n F dX4_ends_74 0 rfl rfl ?_
  refine gf_X4_78_X4 (v := .int (iv 6)) F dX4_ends_75 mO_o rfl ?_
  refine g_eqs (st' := [.int (nI np), .int 131, .ref (L 5), .int 0, .ref (L 1)]) (by rw [h6]; try rfl) ?_
  refine g_imul F dX4_ends_78 ?_
  refine g_sipush (v := 131) F dX4_ends_79 rfl ?_
  refine g_mcopy hN 1 5 (n0 := 131) (n1 := 1048) (a := 0) (b0 := 131 * np) (k := 131) F ⟨q2345, q718, q717, q94⟩ (by decide) (by decide) (by decide) rfl rfl (mO_1 hN) (mO_5 hN) (nto (rfl : (0 : Int32) = nI 0) (show 0 = 0 by omega)) (nto (nmul (rfl : (131 : Int32) = nI 131) rfl) (show (131 * np) = 131 * np by omega)) (nto (rfl : (131 : Int32) = nI 131) (show 131 = 131 by omega)) (by omega) (by omega) (by decide) (nle rfl) (nle rfl) dX4_ends_82 ?_
  refine g_aload_n F dX4_ends_85 0 rfl rfl ?_
  refine g_dup F dX4_ends_86 rfl ?_
  refine gf_X4_78_X4 (v := .int (iv 6)) F dX4_ends_87 mO_o rfl ?_
  refine g_eqs (st' := [.int (nI np), .ref o]) (by rw [h6]; try rfl) ?_
  refine g_iconst (v := 1) F dX4_ends_90 rfl ?_
  refine g_iadd F dX4_ends_91 ?_
  refine gp_X4_78_X4 F dX4_ends_92 mO_o hN.1 (nle rfl) rfl (fun h_e4 e4 => ?_)
  refine g_mput (iv2 := upd iv 6 ((nI np) + 1)) e4 rfl ?_
  refine g_iload_n F dX4_ends_95 1 rfl rfl ?_
  exact g_iret F dX4_ends_96 (⟨rfl, by rw [← nI_1]⟩)
set_option maxHeartbeats 4000000 in
set_option maxRecDepth 100000 in
theorem ct_X4_endsB {K : gK} {h : AH} {o : Nat} {L : Nat → Nat} {iv : Nat → Int32} {av : Nat → Nat → Int32} (hN : mN K o L) {x : Int32} (h7 : iv 7 = 0) (h6 : iv 6 = 8) : gCt K yX4_ends w_X4_ends 1 40 0 0 (mO K h o L iv av) [.ref o, .int x] (pR (.int x) (mO K h o L (upd iv 6 8) (mu av 5 (va_cpy (av 1) (va_cpy (av 5) (av 5) 131 0 917) 0 917 131)))) := by
  refine g_meth pf_X4_ends (nle rfl) (fun p e s m args below meth c F hnm htb => ?_)
  have F : gFix K p s m args meth c cX4_ends 2 RX4 (some .int) := F
  refine g_eql (lv' := [(0, .ref o), (1, .int x)]) rfl ?_
  refine g_aload_n F dX4_ends_0 0 rfl rfl ?_
  refine gf_X4_69_X4 (v := .int (iv 7)) F dX4_ends_1 mO_o rfl ?_
  refine g_if_le (tgt := 25) F dX4_ends_4 (by decide) (fun c1 => ?_) (fun c1 => absurd (by rw [h7]; exact Int32.le_refl 0) c1)
  refine g_aload_n F dX4_ends_25 0 rfl rfl ?_
  refine gf_X4_78_X4 (v := .int (iv 6)) F dX4_ends_26 mO_o rfl ?_
  refine g_eqs (st' := [.int 8]) (by rw [h6]; try rfl) ?_
  refine g_bipush (v := 8) F dX4_ends_29 rfl ?_
  refine g_icmp_ne (tgt := 62) F dX4_ends_31 (by decide) (fun c2 => absurd c2 (by decide)) (fun c2 => ?_)
  refine g_aload_n F dX4_ends_34 0 rfl rfl ?_
  refine gf_X4_22_X4 (v := .ref (L 5)) F dX4_ends_35 mO_o rfl ?_
  refine g_sipush (v := 131) F dX4_ends_38 rfl ?_
  refine g_aload_n F dX4_ends_41 0 rfl rfl ?_
  refine gf_X4_22_X4 (v := .ref (L 5)) F dX4_ends_42 mO_o rfl ?_
  refine g_iconst (v := 0) F dX4_ends_45 rfl ?_
  refine g_sipush (v := 917) F dX4_ends_46 rfl ?_
  refine g_mcopy hN 5 5 (n0 := 1048) (n1 := 1048) (a := 131) (b0 := 0) (k := 917) F ⟨q2345, q718, q717, q94⟩ (by decide) (by decide) (by decide) rfl rfl (mO_5 hN) (mO_5 hN) (nto (rfl : (131 : Int32) = nI 131) (show 131 = 131 by omega)) (nto (rfl : (0 : Int32) = nI 0) (show 0 = 0 by omega)) (nto (rfl : (917 : Int32) = nI 917) (show 917 = 917 by omega)) (by omega) (by omega) (by decide) (nle rfl) (nle rfl) dX4_ends_49 ?_
  refine g_aload_n F dX4_ends_52 0 rfl rfl ?_
  refine g_dup F dX4_ends_53 rfl ?_
  refine gf_X4_78_X4 (v := .int (iv 6)) F dX4_ends_54 mO_o rfl ?_
  refine g_eqs (st' := [.int 8, .ref o]) (by rw [h6]; try rfl) ?_
  refine g_iconst (v := 1) F dX4_ends_57 rfl ?_
  refine g_isub F dX4_ends_58 ?_
  refine gp_X4_78_X4 F dX4_ends_59 mO_o hN.1 (nle rfl) rfl (fun h_e4 e4 => ?_)
  refine g_mput (iv2 := upd iv 6 (8 - 1)) e4 rfl ?_
  refine g_aload_n F dX4_ends_62 0 rfl rfl ?_
  refine gf_X4_13_X4 (v := .ref (L 1)) F dX4_ends_63 mO_o rfl ?_
  refine g_iconst (v := 0) F dX4_ends_66 rfl ?_
  refine g_aload_n F dX4_ends_67 0 rfl rfl ?_
  refine gf_X4_22_X4 (v := .ref (L 5)) F dX4_ends_68 mO_o rfl ?_
  refine g_sipush (v := 131) F dX4_ends_71 rfl ?_
  refine g_aload_n F dX4_ends_74 0 rfl rfl ?_
  refine gf_X4_78_X4 (v := .int (8 - 1)) F dX4_ends_75 mO_o rfl ?_
  refine g_eqs (st' := [.int 7, .int 131, .ref (L 5), .int 0, .ref (L 1)]) (rfl) ?_
  refine g_imul F dX4_ends_78 ?_
  refine g_sipush (v := 131) F dX4_ends_79 rfl ?_
  refine g_mcopy hN 1 5 (n0 := 131) (n1 := 1048) (a := 0) (b0 := 917) (k := 131) F ⟨q2345, q718, q717, q94⟩ (by decide) (by decide) (by decide) rfl rfl (mO_1 hN) (mO_5 hN) (nto (rfl : (0 : Int32) = nI 0) (show 0 = 0 by omega)) (nto (nmul (rfl : (131 : Int32) = nI 131) (rfl : (7 : Int32) = nI 7)) (show (131 * 7) = 917 by omega)) (nto (rfl : (131 : Int32) = nI 131) (show 131 = 131 by omega)) (by omega) (by omega) (by decide) (nle rfl) (nle rfl) dX4_ends_82 ?_
  refine g_eqh (h' := (mO K h o L (upd iv 6 (8 - 1)) (mu av 5 (va_cpy (av 1) (va_cpy (av 5) (av 5) 131 0 917) 0 917 131)))) (by simp only [mu_s, mu_mu]; try rfl) ?_
  refine g_aload_n F dX4_ends_85 0 rfl rfl ?_
  refine g_dup F dX4_ends_86 rfl ?_
  refine gf_X4_78_X4 (v := .int (8 - 1)) F dX4_ends_87 mO_o rfl ?_
  refine g_eqs (st' := [.int 7, .ref o]) (rfl) ?_
  refine g_iconst (v := 1) F dX4_ends_90 rfl ?_
  refine g_iadd F dX4_ends_91 ?_
  refine gp_X4_78_X4 F dX4_ends_92 mO_o hN.1 (nle rfl) rfl (fun h_e6 e6 => ?_)
  refine g_mput (iv2 := upd (upd iv 6 (8 - 1)) 6 (7 + 1)) e6 rfl ?_
  refine g_iload_n F dX4_ends_95 1 rfl rfl ?_
  exact g_iret F dX4_ends_96 (⟨rfl, by rw [upd_upd]; rfl⟩)
theorem ct_X4_endsO {K : gK} {h : AH} {o : Nat} {L : Nat → Nat} {iv : Nat → Int32} {av : Nat → Nat → Int32} (hN : mN K o L) {x : Int32} {np : Nat} (h7 : iv 7 = 0) (h6 : iv 6 = nI np) (hp : np ≤ 8) : gCt K yX4_ends w_X4_ends 1 40 0 0 (mO K h o L iv av) [.ref o, .int x] (pR (.int x) (mO K h o L (upd iv 6 (nI (xNp np))) (mu av 5 (xPush (av 5) (av 1) np)))) := by
  by_cases q : np = 8
  · subst q
    exact ct_X4_endsB hN h7 h6
  · have t := ct_X4_endsA (h := h) (iv := iv) (av := av) (x := x) hN h7 h6 (by omega)
    simp only [xNp, xPush, if_neg q]
    exact t

theorem cpy_mu {av : Nat → Nat → Int32} (hz : mZ av) : va_cpy (mu av 1 (av 0) 1) (mu av 1 (av 0) 0) 0 0 131 = av 0 := cpy_full hz.1 hz.1
theorem gCt_xl {K : gK} {y : MethodName} {w : Cond} {fr lo mc ms : Nat} {h0 h : AH} {o : Nat} {L : Nat → Nat} {iv : Nat → Int32} {av : Nat → Nat → Int32} {spec : xR} {a : Int32} {f' : Nat → Int32} {args : List Value} (hr : spec = .inl (a, f')) (t : gCt K y w fr lo mc ms h0 args (pR (.int (xRet spec)) (mO K h o L (xIv iv spec) (xAv av spec)))) : gCt K y w fr lo mc ms h0 args (pR (.int a) (mO K h o L iv (mu av 0 f'))) := by
  rw [hr] at t; exact t
theorem gCt_xr {K : gK} {y : MethodName} {w : Cond} {fr lo mc ms : Nat} {h0 h : AH} {o : Nat} {L : Nat → Nat} {iv : Nat → Int32} {av : Nat → Nat → Int32} {spec : xR} {p : Nat} {d : Option (Int32 × Int32)} {args : List Value} (hr : spec = .inr (p, d)) (t : gCt K y w fr lo mc ms h0 args (pR (.int (xRet spec)) (mO K h o L (xIv iv spec) (xAv av spec)))) : gCt K y w fr lo mc ms h0 args (pR (.int 0) (mO K h o L (xIv iv (.inr (p, d))) av)) := by
  rw [hr] at t; exact t

set_option maxHeartbeats 4000000 in
set_option maxRecDepth 100000 in
theorem ct_X4_hang {K : gK} {h : AH} {o : Nat} {L : Nat → Nat} {iv : Nat → Int32} {av : Nat → Nat → Int32} (hN : mN K o L) {x y : Int32} {nb nc nh nq : Nat} (hC : mC (av 0) nb nc nh nq) (hL : mL (av 0) nb nc nq) (hz : mZ av) {np : Nat} (h6 : iv 6 = nI np) (hnp : np ≤ 8) : gCt K yX4_hang w_X4_hang 3 66 0 0 (mO K h o L iv av) [.ref o, .int x, .int y] (pR (.int (xRet (xHang (av 0) nb nc x y))) (mO K h o L (xSIv iv (xHang (av 0) nb nc x y) np) (xSAv av (xHang (av 0) nb nc x y) np))) := by
  refine g_meth pf_X4_hang (nle rfl) (fun p e s m args below meth c F hnm htb => ?_)
  have F : gFix K p s m args meth c cX4_hang 3 RX4 (some .int) := F
  refine g_eql (lv' := [(0, .ref o), (1, .int x), (2, .int y)]) rfl ?_
  rcases hr : xHang (av 0) nb nc x y with ⟨a, f'⟩ | ⟨pp, d⟩
  · refine g_aload_n F dX4_hang_0 0 rfl rfl ?_
    refine g_callV F dX4_hang_1 mi_X4_keep q2341 q2343 qs25 gc_X4 mO_o (ct_X4_keepZ hN hz) rfl rfl (nle rfl) (nle rfl) (nle rfl) (g_purv ?_) g_purvX
    refine g_aload_n F dX4_hang_4 0 rfl rfl ?_
    refine g_aload_n F dX4_hang_5 0 rfl rfl ?_
    refine g_iload_n F dX4_hang_6 1 rfl rfl ?_
    refine g_iload_n F dX4_hang_7 2 rfl rfl ?_
    refine g_callV F dX4_hang_8 mi_X4_doHang q2443 q2445 qs41 gc_X4 mO_o (gCt_xl hr (ct_X4_doHang (h := h) (iv := upd iv 7 0) (av := mu av 1 (av 0)) hN hC hL)) rfl rfl (nle rfl) (nle rfl) (nle rfl) (g_pur ?_) g_purX
    refine g_callV F dX4_hang_11 mi_X4_ends q2353 q2355 qs27 gc_X4 mO_o (ct_X4_endsO hN (np := np) pk_us ((pk_un (by decide)).trans h6) hnp) rfl rfl (nle rfl) (nle rfl) (nle rfl) (g_pur ?_) g_purX
    exact g_iret F dX4_hang_14 (⟨rfl, rfl⟩)
  · have hok := xHang_ok pp d hr
    refine g_aload_n F dX4_hang_0 0 rfl rfl ?_
    refine g_callV F dX4_hang_1 mi_X4_keep q2341 q2343 qs25 gc_X4 mO_o (ct_X4_keepZ hN hz) rfl rfl (nle rfl) (nle rfl) (nle rfl) (g_purv ?_) g_purvX
    refine g_aload_n F dX4_hang_4 0 rfl rfl ?_
    refine g_aload_n F dX4_hang_5 0 rfl rfl ?_
    refine g_iload_n F dX4_hang_6 1 rfl rfl ?_
    refine g_iload_n F dX4_hang_7 2 rfl rfl ?_
    refine g_callV F dX4_hang_8 mi_X4_doHang q2443 q2445 qs41 gc_X4 mO_o (gCt_xr hr (ct_X4_doHang (h := h) (iv := upd iv 7 0) (av := mu av 1 (av 0)) hN hC hL)) rfl rfl (nle rfl) (nle rfl) (nle rfl) (g_pur ?_) g_purX
    refine g_callV F dX4_hang_11 mi_X4_ends q2353 q2355 qs27 gc_X4 mO_o (ct_X4_endsX hN xIv_7 hok) rfl rfl (nle rfl) (nle rfl) (nle rfl) (g_pur ?_) g_purX
    exact g_iret F dX4_hang_14 (⟨rfl, by rw [cpy_mu hz]; show _ = mO K h o L _ _; rw [show mu (mu av 1 (av 0)) 0 (av 0) = mu av 1 (av 0) from mu_id (av := mu av 1 (av 0)) (j := 0)]; rfl⟩)
set_option maxHeartbeats 4000000 in
set_option maxRecDepth 100000 in
theorem ct_X4_drop {K : gK} {h : AH} {o : Nat} {L : Nat → Nat} {iv : Nat → Int32} {av : Nat → Nat → Int32} (hN : mN K o L) {x : Int32} {nb nc nh nq : Nat} (hC : mC (av 0) nb nc nh nq) (hL : mL (av 0) nb nc nq) (hz : mZ av) {np : Nat} (h6 : iv 6 = nI np) (hnp : np ≤ 8) : gCt K yX4_drop w_X4_drop 3 65 0 0 (mO K h o L iv av) [.ref o, .int x] (pR (.int (xRet (xDrop (av 0) nc x))) (mO K h o L (xSIv iv (xDrop (av 0) nc x) np) (xSAv av (xDrop (av 0) nc x) np))) := by
  refine g_meth pf_X4_drop (nle rfl) (fun p e s m args below meth c F hnm htb => ?_)
  have F : gFix K p s m args meth c cX4_drop 2 RX4 (some .int) := F
  refine g_eql (lv' := [(0, .ref o), (1, .int x)]) rfl ?_
  rcases hr : xDrop (av 0) nc x with ⟨a, f'⟩ | ⟨pp, d⟩
  · refine g_aload_n F dX4_drop_0 0 rfl rfl ?_
    refine g_callV F dX4_drop_1 mi_X4_keep q2341 q2343 qs25 gc_X4 mO_o (ct_X4_keepZ hN hz) rfl rfl (nle rfl) (nle rfl) (nle rfl) (g_purv ?_) g_purvX
    refine g_aload_n F dX4_drop_4 0 rfl rfl ?_
    refine g_aload_n F dX4_drop_5 0 rfl rfl ?_
    refine g_iload_n F dX4_drop_6 1 rfl rfl ?_
    refine g_callV F dX4_drop_7 mi_X4_doDrop q2451 q2453 qs42 gc_X4 mO_o (gCt_xl hr (ct_X4_doDrop (h := h) (iv := upd iv 7 0) (av := mu av 1 (av 0)) hN hC hL)) rfl rfl (nle rfl) (nle rfl) (nle rfl) (g_pur ?_) g_purX
    refine g_callV F dX4_drop_10 mi_X4_ends q2353 q2355 qs27 gc_X4 mO_o (ct_X4_endsO hN (np := np) pk_us ((pk_un (by decide)).trans h6) hnp) rfl rfl (nle rfl) (nle rfl) (nle rfl) (g_pur ?_) g_purX
    exact g_iret F dX4_drop_13 (⟨rfl, rfl⟩)
  · have hok := xDrop_ok pp d hr
    refine g_aload_n F dX4_drop_0 0 rfl rfl ?_
    refine g_callV F dX4_drop_1 mi_X4_keep q2341 q2343 qs25 gc_X4 mO_o (ct_X4_keepZ hN hz) rfl rfl (nle rfl) (nle rfl) (nle rfl) (g_purv ?_) g_purvX
    refine g_aload_n F dX4_drop_4 0 rfl rfl ?_
    refine g_aload_n F dX4_drop_5 0 rfl rfl ?_
    refine g_iload_n F dX4_drop_6 1 rfl rfl ?_
    refine g_callV F dX4_drop_7 mi_X4_doDrop q2451 q2453 qs42 gc_X4 mO_o (gCt_xr hr (ct_X4_doDrop (h := h) (iv := upd iv 7 0) (av := mu av 1 (av 0)) hN hC hL)) rfl rfl (nle rfl) (nle rfl) (nle rfl) (g_pur ?_) g_purX
    refine g_callV F dX4_drop_10 mi_X4_ends q2353 q2355 qs27 gc_X4 mO_o (ct_X4_endsX hN xIv_7 hok) rfl rfl (nle rfl) (nle rfl) (nle rfl) (g_pur ?_) g_purX
    exact g_iret F dX4_drop_13 (⟨rfl, by rw [cpy_mu hz]; show _ = mO K h o L _ _; rw [show mu (mu av 1 (av 0)) 0 (av 0) = mu av 1 (av 0) from mu_id (av := mu av 1 (av 0)) (j := 0)]; rfl⟩)
set_option maxHeartbeats 4000000 in
set_option maxRecDepth 100000 in
theorem ct_X4_weights {K : gK} {h : AH} {o : Nat} {L : Nat → Nat} {iv : Nat → Int32} {av : Nat → Nat → Int32} (hN : mN K o L) {x y : Int32} {nb nc nh nq : Nat} (hC : mC (av 0) nb nc nh nq) (hL : mL (av 0) nb nc nq) (hz : mZ av) {np : Nat} (h6 : iv 6 = nI np) (hnp : np ≤ 8) : gCt K yX4_weights w_X4_weights 3 68 0 0 (mO K h o L iv av) [.ref o, .int x, .int y] (pR (.int (xRet (xWts (av 0) nb x y))) (mO K h o L (xSIv iv (xWts (av 0) nb x y) np) (xSAv av (xWts (av 0) nb x y) np))) := by
  refine g_meth pf_X4_weights (nle rfl) (fun p e s m args below meth c F hnm htb => ?_)
  have F : gFix K p s m args meth c cX4_weights 3 RX4 (some .int) := F
  refine g_eql (lv' := [(0, .ref o), (1, .int x), (2, .int y)]) rfl ?_
  rcases hr : xWts (av 0) nb x y with ⟨a, f'⟩ | ⟨pp, d⟩
  · refine g_aload_n F dX4_weights_0 0 rfl rfl ?_
    refine g_callV F dX4_weights_1 mi_X4_keep q2341 q2343 qs25 gc_X4 mO_o (ct_X4_keepZ hN hz) rfl rfl (nle rfl) (nle rfl) (nle rfl) (g_purv ?_) g_purvX
    refine g_aload_n F dX4_weights_4 0 rfl rfl ?_
    refine g_aload_n F dX4_weights_5 0 rfl rfl ?_
    refine g_iload_n F dX4_weights_6 1 rfl rfl ?_
    refine g_iload_n F dX4_weights_7 2 rfl rfl ?_
    refine g_callV F dX4_weights_8 mi_X4_doWeights q2459 q2461 qs43 gc_X4 mO_o (gCt_xl hr (ct_X4_doWeights (h := h) (iv := upd iv 7 0) (av := mu av 1 (av 0)) hN hC hL)) rfl rfl (nle rfl) (nle rfl) (nle rfl) (g_pur ?_) g_purX
    refine g_callV F dX4_weights_11 mi_X4_ends q2353 q2355 qs27 gc_X4 mO_o (ct_X4_endsO hN (np := np) pk_us ((pk_un (by decide)).trans h6) hnp) rfl rfl (nle rfl) (nle rfl) (nle rfl) (g_pur ?_) g_purX
    exact g_iret F dX4_weights_14 (⟨rfl, rfl⟩)
  · have hok := xWts_ok pp d hr
    refine g_aload_n F dX4_weights_0 0 rfl rfl ?_
    refine g_callV F dX4_weights_1 mi_X4_keep q2341 q2343 qs25 gc_X4 mO_o (ct_X4_keepZ hN hz) rfl rfl (nle rfl) (nle rfl) (nle rfl) (g_purv ?_) g_purvX
    refine g_aload_n F dX4_weights_4 0 rfl rfl ?_
    refine g_aload_n F dX4_weights_5 0 rfl rfl ?_
    refine g_iload_n F dX4_weights_6 1 rfl rfl ?_
    refine g_iload_n F dX4_weights_7 2 rfl rfl ?_
    refine g_callV F dX4_weights_8 mi_X4_doWeights q2459 q2461 qs43 gc_X4 mO_o (gCt_xr hr (ct_X4_doWeights (h := h) (iv := upd iv 7 0) (av := mu av 1 (av 0)) hN hC hL)) rfl rfl (nle rfl) (nle rfl) (nle rfl) (g_pur ?_) g_purX
    refine g_callV F dX4_weights_11 mi_X4_ends q2353 q2355 qs27 gc_X4 mO_o (ct_X4_endsX hN xIv_7 hok) rfl rfl (nle rfl) (nle rfl) (nle rfl) (g_pur ?_) g_purX
    exact g_iret F dX4_weights_14 (⟨rfl, by rw [cpy_mu hz]; show _ = mO K h o L _ _; rw [show mu (mu av 1 (av 0)) 0 (av 0) = mu av 1 (av 0) from mu_id (av := mu av 1 (av 0)) (j := 0)]; rfl⟩)
set_option maxHeartbeats 4000000 in
set_option maxRecDepth 100000 in
theorem ct_X4_door {K : gK} {h : AH} {o : Nat} {L : Nat → Nat} {iv : Nat → Int32} {av : Nat → Nat → Int32} (hN : mN K o L) {x y : Int32} {nb nc nh nq : Nat} (hC : mC (av 0) nb nc nh nq) (hL : mL (av 0) nb nc nq) (hz : mZ av) {np : Nat} (h6 : iv 6 = nI np) (hnp : np ≤ 8) : gCt K yX4_door w_X4_door 2 61 0 0 (mO K h o L iv av) [.ref o, .int x, .int y] (pR (.int (xRet (xDoor (av 0) x (if y = 0 then 0 else 1)))) (mO K h o L (xSIv iv (xDoor (av 0) x (if y = 0 then 0 else 1)) np) (xSAv av (xDoor (av 0) x (if y = 0 then 0 else 1)) np))) := by
  refine g_meth pf_X4_door (nle rfl) (fun p e s m args below meth c F hnm htb => ?_)
  have F : gFix K p s m args meth c cX4_door 3 RX4 (some .int) := F
  refine g_eql (lv' := [(0, .ref o), (1, .int x), (2, .int y)]) rfl ?_
  rcases hr : xDoor (av 0) x (if y = 0 then 0 else 1) with ⟨a, f'⟩ | ⟨pp, d⟩
  · refine g_aload_n F dX4_door_0 0 rfl rfl ?_
    refine g_callV F dX4_door_1 mi_X4_keep q2341 q2343 qs25 gc_X4 mO_o (ct_X4_keepZ hN hz) rfl rfl (nle rfl) (nle rfl) (nle rfl) (g_purv ?_) g_purvX
    refine g_aload_n F dX4_door_4 0 rfl rfl ?_
    refine g_aload_n F dX4_door_5 0 rfl rfl ?_
    refine g_iload_n F dX4_door_6 1 rfl rfl ?_
    refine g_iload_n F dX4_door_7 2 rfl rfl ?_
    refine g_callV F dX4_door_8 mi_X4_doDoor q2504 q2506 qs47 gc_X4 mO_o (gCt_xl hr (ct_X4_doDoor (h := h) (iv := upd iv 7 0) (av := mu av 1 (av 0)) hN hC hL)) rfl rfl (nle rfl) (nle rfl) (nle rfl) (g_pur ?_) g_purX
    refine g_callV F dX4_door_11 mi_X4_ends q2353 q2355 qs27 gc_X4 mO_o (ct_X4_endsO hN (np := np) pk_us ((pk_un (by decide)).trans h6) hnp) rfl rfl (nle rfl) (nle rfl) (nle rfl) (g_pur ?_) g_purX
    exact g_iret F dX4_door_14 (⟨rfl, rfl⟩)
  · have hok := xDoor_ok pp d hr
    refine g_aload_n F dX4_door_0 0 rfl rfl ?_
    refine g_callV F dX4_door_1 mi_X4_keep q2341 q2343 qs25 gc_X4 mO_o (ct_X4_keepZ hN hz) rfl rfl (nle rfl) (nle rfl) (nle rfl) (g_purv ?_) g_purvX
    refine g_aload_n F dX4_door_4 0 rfl rfl ?_
    refine g_aload_n F dX4_door_5 0 rfl rfl ?_
    refine g_iload_n F dX4_door_6 1 rfl rfl ?_
    refine g_iload_n F dX4_door_7 2 rfl rfl ?_
    refine g_callV F dX4_door_8 mi_X4_doDoor q2504 q2506 qs47 gc_X4 mO_o (gCt_xr hr (ct_X4_doDoor (h := h) (iv := upd iv 7 0) (av := mu av 1 (av 0)) hN hC hL)) rfl rfl (nle rfl) (nle rfl) (nle rfl) (g_pur ?_) g_purX
    refine g_callV F dX4_door_11 mi_X4_ends q2353 q2355 qs27 gc_X4 mO_o (ct_X4_endsX hN xIv_7 hok) rfl rfl (nle rfl) (nle rfl) (nle rfl) (g_pur ?_) g_purX
    exact g_iret F dX4_door_14 (⟨rfl, by rw [cpy_mu hz]; show _ = mO K h o L _ _; rw [show mu (mu av 1 (av 0)) 0 (av 0) = mu av 1 (av 0) from mu_id (av := mu av 1 (av 0)) (j := 0)]; rfl⟩)
set_option maxHeartbeats 4000000 in
set_option maxRecDepth 100000 in
theorem ct_X4_fly {K : gK} {h : AH} {o : Nat} {L : Nat → Nat} {iv : Nat → Int32} {av : Nat → Nat → Int32} (hN : mN K o L) {x y : Int32} {nb nc nh nq : Nat} (hC : mC (av 0) nb nc nh nq) (hL : mL (av 0) nb nc nq) (hz : mZ av) {np : Nat} (h6 : iv 6 = nI np) (hnp : np ≤ 8) : gCt K yX4_fly w_X4_fly 6 132 0 0 (mO K h o L iv av) [.ref o, .int x, .int y] (pR (.int (xRet (xFly (av 0) nb nc nh x y))) (mO K h o L (xSIv iv (xFly (av 0) nb nc nh x y) np) (xSAv av (xFly (av 0) nb nc nh x y) np))) := by
  refine g_meth pf_X4_fly (nle rfl) (fun p e s m args below meth c F hnm htb => ?_)
  have F : gFix K p s m args meth c cX4_fly 3 RX4 (some .int) := F
  refine g_eql (lv' := [(0, .ref o), (1, .int x), (2, .int y)]) rfl ?_
  rcases hr : xFly (av 0) nb nc nh x y with ⟨a, f'⟩ | ⟨pp, d⟩
  · refine g_aload_n F dX4_fly_0 0 rfl rfl ?_
    refine g_callV F dX4_fly_1 mi_X4_keep q2341 q2343 qs25 gc_X4 mO_o (ct_X4_keepZ hN hz) rfl rfl (nle rfl) (nle rfl) (nle rfl) (g_purv ?_) g_purvX
    refine g_aload_n F dX4_fly_4 0 rfl rfl ?_
    refine g_aload_n F dX4_fly_5 0 rfl rfl ?_
    refine g_iload_n F dX4_fly_6 1 rfl rfl ?_
    refine g_iload_n F dX4_fly_7 2 rfl rfl ?_
    refine g_callV F dX4_fly_8 mi_X4_doFly q2524 q2526 qs50 gc_X4 mO_o (gCt_xl hr (ct_X4_doFly (h := h) (iv := upd iv 7 0) (av := mu av 1 (av 0)) hN hC hL)) rfl rfl (nle rfl) (nle rfl) (nle rfl) (g_pur ?_) g_purX
    refine g_callV F dX4_fly_11 mi_X4_ends q2353 q2355 qs27 gc_X4 mO_o (ct_X4_endsO hN (np := np) pk_us ((pk_un (by decide)).trans h6) hnp) rfl rfl (nle rfl) (nle rfl) (nle rfl) (g_pur ?_) g_purX
    exact g_iret F dX4_fly_14 (⟨rfl, rfl⟩)
  · have hok := xFly_ok pp d hr
    refine g_aload_n F dX4_fly_0 0 rfl rfl ?_
    refine g_callV F dX4_fly_1 mi_X4_keep q2341 q2343 qs25 gc_X4 mO_o (ct_X4_keepZ hN hz) rfl rfl (nle rfl) (nle rfl) (nle rfl) (g_purv ?_) g_purvX
    refine g_aload_n F dX4_fly_4 0 rfl rfl ?_
    refine g_aload_n F dX4_fly_5 0 rfl rfl ?_
    refine g_iload_n F dX4_fly_6 1 rfl rfl ?_
    refine g_iload_n F dX4_fly_7 2 rfl rfl ?_
    refine g_callV F dX4_fly_8 mi_X4_doFly q2524 q2526 qs50 gc_X4 mO_o (gCt_xr hr (ct_X4_doFly (h := h) (iv := upd iv 7 0) (av := mu av 1 (av 0)) hN hC hL)) rfl rfl (nle rfl) (nle rfl) (nle rfl) (g_pur ?_) g_purX
    refine g_callV F dX4_fly_11 mi_X4_ends q2353 q2355 qs27 gc_X4 mO_o (ct_X4_endsX hN xIv_7 hok) rfl rfl (nle rfl) (nle rfl) (nle rfl) (g_pur ?_) g_purX
    exact g_iret F dX4_fly_14 (⟨rfl, by rw [cpy_mu hz]; show _ = mO K h o L _ _; rw [show mu (mu av 1 (av 0)) 0 (av 0) = mu av 1 (av 0) from mu_id (av := mu av 1 (av 0)) (j := 0)]; rfl⟩)
set_option maxHeartbeats 4000000 in
set_option maxRecDepth 100000 in
theorem ct_X4_go {K : gK} {h : AH} {o : Nat} {L : Nat → Nat} {iv : Nat → Int32} {av : Nat → Nat → Int32} (hN : mN K o L)  {nb nc nh nq : Nat} (hC : mC (av 0) nb nc nh nq) (hL : mL (av 0) nb nc nq) (hz : mZ av) {np : Nat} (h6 : iv 6 = nI np) (hnp : np ≤ 8) : gCt K yX4_go w_X4_go 6 134 0 0 (mO K h o L iv av) [.ref o] (pR (.int (xRet (xGo (av 0) nc nh nq))) (mO K h o L (xSIv iv (xGo (av 0) nc nh nq) np) (xSAv av (xGo (av 0) nc nh nq) np))) := by
  refine g_meth pf_X4_go (nle rfl) (fun p e s m args below meth c F hnm htb => ?_)
  have F : gFix K p s m args meth c cX4_go 1 RX4 (some .int) := F
  refine g_eql (lv' := [(0, .ref o)]) rfl ?_
  rcases hr : xGo (av 0) nc nh nq with ⟨a, f'⟩ | ⟨pp, d⟩
  · refine g_aload_n F dX4_go_0 0 rfl rfl ?_
    refine g_callV F dX4_go_1 mi_X4_keep q2341 q2343 qs25 gc_X4 mO_o (ct_X4_keepZ hN hz) rfl rfl (nle rfl) (nle rfl) (nle rfl) (g_purv ?_) g_purvX
    refine g_aload_n F dX4_go_4 0 rfl rfl ?_
    refine g_aload_n F dX4_go_5 0 rfl rfl ?_
    refine g_callV F dX4_go_6 mi_X4_doGo q2568 q2570 qs56 gc_X4 mO_o (gCt_xl hr (ct_X4_doGo (h := h) (iv := upd iv 7 0) (av := mu av 1 (av 0)) hN hC hL)) rfl rfl (nle rfl) (nle rfl) (nle rfl) (g_pur ?_) g_purX
    refine g_callV F dX4_go_9 mi_X4_ends q2353 q2355 qs27 gc_X4 mO_o (ct_X4_endsO hN (np := np) pk_us ((pk_un (by decide)).trans h6) hnp) rfl rfl (nle rfl) (nle rfl) (nle rfl) (g_pur ?_) g_purX
    exact g_iret F dX4_go_12 (⟨rfl, rfl⟩)
  · have hok := xGo_ok pp d hr
    refine g_aload_n F dX4_go_0 0 rfl rfl ?_
    refine g_callV F dX4_go_1 mi_X4_keep q2341 q2343 qs25 gc_X4 mO_o (ct_X4_keepZ hN hz) rfl rfl (nle rfl) (nle rfl) (nle rfl) (g_purv ?_) g_purvX
    refine g_aload_n F dX4_go_4 0 rfl rfl ?_
    refine g_aload_n F dX4_go_5 0 rfl rfl ?_
    refine g_callV F dX4_go_6 mi_X4_doGo q2568 q2570 qs56 gc_X4 mO_o (gCt_xr hr (ct_X4_doGo (h := h) (iv := upd iv 7 0) (av := mu av 1 (av 0)) hN hC hL)) rfl rfl (nle rfl) (nle rfl) (nle rfl) (g_pur ?_) g_purX
    refine g_callV F dX4_go_9 mi_X4_ends q2353 q2355 qs27 gc_X4 mO_o (ct_X4_endsX hN xIv_7 hok) rfl rfl (nle rfl) (nle rfl) (nle rfl) (g_pur ?_) g_purX
    exact g_iret F dX4_go_12 (⟨rfl, by rw [cpy_mu hz]; show _ = mO K h o L _ _; rw [show mu (mu av 1 (av 0)) 0 (av 0) = mu av 1 (av 0) from mu_id (av := mu av 1 (av 0)) (j := 0)]; rfl⟩)
set_option maxHeartbeats 4000000 in
set_option maxRecDepth 100000 in
theorem ct_X4_year {K : gK} {h : AH} {o : Nat} {L : Nat → Nat} {iv : Nat → Int32} {av : Nat → Nat → Int32} (hN : mN K o L) {y : Int32} {nb nc nh nq : Nat} (hC : mC (av 0) nb nc nh nq) (hL : mL (av 0) nb nc nq) (hz : mZ av) {np : Nat} (h6 : iv 6 = nI np) (hnp : np ≤ 8) : gCt K yX4_year w_X4_year 4 88 0 0 (mO K h o L iv av) [.ref o, .int y] (pR (.int (xRet (xYear (av 0) nb nc y))) (mO K h o L (xSIv iv (xYear (av 0) nb nc y) np) (xSAv av (xYear (av 0) nb nc y) np))) := by
  refine g_meth pf_X4_year (nle rfl) (fun p e s m args below meth c F hnm htb => ?_)
  have F : gFix K p s m args meth c cX4_year 2 RX4 (some .int) := F
  refine g_eql (lv' := [(0, .ref o), (1, .int y)]) rfl ?_
  rcases hr : xYear (av 0) nb nc y with ⟨a, f'⟩ | ⟨pp, d⟩
  · refine g_aload_n F dX4_year_0 0 rfl rfl ?_
    refine g_callV F dX4_year_1 mi_X4_keep q2341 q2343 qs25 gc_X4 mO_o (ct_X4_keepZ hN hz) rfl rfl (nle rfl) (nle rfl) (nle rfl) (g_purv ?_) g_purvX
    refine g_aload_n F dX4_year_4 0 rfl rfl ?_
    refine g_aload_n F dX4_year_5 0 rfl rfl ?_
    refine g_iload_n F dX4_year_6 1 rfl rfl ?_
    refine g_callV F dX4_year_7 mi_X4_doYear q2415 q2417 qs38 gc_X4 mO_o (gCt_xl hr (ct_X4_doYear (h := h) (iv := upd iv 7 0) (av := mu av 1 (av 0)) hN hC hL)) rfl rfl (nle rfl) (nle rfl) (nle rfl) (g_pur ?_) g_purX
    refine g_callV F dX4_year_10 mi_X4_ends q2353 q2355 qs27 gc_X4 mO_o (ct_X4_endsO hN (np := np) pk_us ((pk_un (by decide)).trans h6) hnp) rfl rfl (nle rfl) (nle rfl) (nle rfl) (g_pur ?_) g_purX
    exact g_iret F dX4_year_13 (⟨rfl, rfl⟩)
  · have hok := xYear_ok pp d hr
    refine g_aload_n F dX4_year_0 0 rfl rfl ?_
    refine g_callV F dX4_year_1 mi_X4_keep q2341 q2343 qs25 gc_X4 mO_o (ct_X4_keepZ hN hz) rfl rfl (nle rfl) (nle rfl) (nle rfl) (g_purv ?_) g_purvX
    refine g_aload_n F dX4_year_4 0 rfl rfl ?_
    refine g_aload_n F dX4_year_5 0 rfl rfl ?_
    refine g_iload_n F dX4_year_6 1 rfl rfl ?_
    refine g_callV F dX4_year_7 mi_X4_doYear q2415 q2417 qs38 gc_X4 mO_o (gCt_xr hr (ct_X4_doYear (h := h) (iv := upd iv 7 0) (av := mu av 1 (av 0)) hN hC hL)) rfl rfl (nle rfl) (nle rfl) (nle rfl) (g_pur ?_) g_purX
    refine g_callV F dX4_year_10 mi_X4_ends q2353 q2355 qs27 gc_X4 mO_o (ct_X4_endsX hN xIv_7 hok) rfl rfl (nle rfl) (nle rfl) (nle rfl) (g_pur ?_) g_purX
    exact g_iret F dX4_year_13 (⟨rfl, by rw [cpy_mu hz]; show _ = mO K h o L _ _; rw [show mu (mu av 1 (av 0)) 0 (av 0) = mu av 1 (av 0) from mu_id (av := mu av 1 (av 0)) (j := 0)]; rfl⟩)
