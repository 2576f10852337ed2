/-! ===== THE REFERENCE: lines (written by tools/model8.py) ===== -/
set_option maxHeartbeats 4000000 in
set_option maxRecDepth 100000 in
theorem ct_X4_says {K : gK} {h : AH} {o : Nat} {L : Nat → Nat} {iv : Nat → Int32} {av : Nat → Nat → Int32} (hN : mN K o L) {a n : Nat} {l : List Nat} (hS : gStr K a l) (h11 : iv 11 = nI n) (hln2 : n + l.length ≤ 200) (hlc : ∀ c ∈ l, c < 128) : gCt K yX4_says w_X4_says 4 85 0 0 (mO K h o L iv av) [.ref o, .ref a] (pV (mO K h o L (upd iv 11 (nI (n + l.length))) (mu av 10 (qPut (av 10) n l)))) := by
  refine g_meth pf_X4_says (nle rfl) (fun p e s m args below meth c F hnm htb => ?_)
  have F : gFix K p s m args meth c cX4_says 3 RX4 none := F
  refine g_eql (lv' := [(0, .ref o), (1, .ref a)]) rfl ?_
  obtain ⟨bb, hv, zv, ho1, ho2⟩ := hS
  have hln : l.length < 2 ^ 31 := by omega
  refine g_iconst (v := 0) F dX4_says_0 rfl ?_
  refine g_istore_n (lv' := [(2, .int 0), (0, .ref o), (1, .ref a)]) F dX4_says_1 rfl (by decide) rfl ?_
  refine g_eqh (h' := (mO K h o L (upd iv 11 (nI (n + 0))) (mu av 10 (qPut (av 10) n (l.take 0))))) (by rw [show qPut (av 10) n (l.take 0) = av 10 from qPut_0, mu_id, upd_id (show iv 11 = nI (n + 0) from h11)]) ?_
  refine g_lv (lv' := [(0, .ref o), (1, .ref a), (2, .int 0)]) [1, 2, 0] rfl ?_
  have lp : ∀ k, k ≤ l.length → G K p e s m args below meth c (gRm 4 85 0 0) 3 (pV (mO K h o L (upd iv 11 (nI (n + l.length))) (mu av 10 (qPut (av 10) n l)))) (mO K h o L (upd iv 11 (nI (n + k))) (mu av 10 (qPut (av 10) n (l.take k)))) 0 0 2 [(0, .ref o), (1, .ref a), (2, .int (nI k))] [] := by
    refine gloop l.length (fun k hk ih => ?_)
    refine g_iload_n F dX4_says_2 2 rfl rfl ?_
    refine g_old ho1 (fun hs1 => ?_)
    refine g_old ho2 (fun hb2 => ?_)
    refine g_aload_n F dX4_says_3 1 rfl rfl ?_
    refine g_callV F dX4_says_4 mi_J6_length q2589 q888 q889 gc_J6 hs1 (ct_J6_length hs1 hb2 hln) rfl rfl (nle rfl) (nle rfl) (nle rfl) (g_pur ?_) g_purX
    refine g_icmp_ge (tgt := 40) F dX4_says_7 (by decide) (fun c3 => ?_) (fun c3 => ?_)
    · have hkN : k = l.length := gexit hln hk c3
      exact g_vret F dX4_says_40 (⟨rfl, by rw [hkN, List.take_length]⟩)
    · have hlt : k < l.length := gbody hln hk c3
      have hck : l.getD k 0 < 128 := hlc _ (getD_mem hlt)
      refine g_aload_n F dX4_says_10 0 rfl rfl ?_
      refine gf_X4_25_X4 (v := .ref (L 10)) F dX4_says_11 mO_o rfl ?_
      refine g_aload_n F dX4_says_14 0 rfl rfl ?_
      refine gf_X4_209_X4 (v := .int (nI (n + k))) F dX4_says_15 mO_o rfl ?_
      refine g_aload_n F dX4_says_18 1 rfl rfl ?_
      refine g_iload_n F dX4_says_19 2 rfl rfl ?_
      refine g_callV F dX4_says_20 mi_J6_charAt q2590 q1983 q1984 gc_J6 hs1 (ct_J6_charAt hs1 hb2 rfl (hi := hlt) hln) rfl rfl (nle rfl) (nle rfl) (nle rfl) (g_pur ?_) g_purX
      refine g_mcast hN (i := n + k) F rfl (show (n + k) = n + k by omega) (by omega) dX4_says_23 ?_
      refine g_eqh (h' := (mO K h o L (upd iv 11 (nI (n + k))) (mu av 10 (upd (qPut (av 10) n (l.take k)) (n + k) (vp_nar .char (sCh (nI (l.getD k 0)))))))) (by simp only [mu_s, mu_mu]; try rfl) ?_
      refine g_aload_n F dX4_says_24 0 rfl rfl ?_
      refine g_dup F dX4_says_25 rfl ?_
      refine gf_X4_209_X4 (v := .int (nI (n + k))) F dX4_says_26 mO_o rfl ?_
      refine g_iconst (v := 1) F dX4_says_29 rfl ?_
      refine g_iadd F dX4_says_30 ?_
      refine gp_X4_209_X4 F dX4_says_31 mO_o hN.1 (nle rfl) rfl (fun h_e4 e4 => ?_)
      refine g_mput (iv2 := upd (upd iv 11 (nI (n + k))) 11 ((nI (n + k)) + 1)) e4 rfl ?_
      refine g_eqh (h' := (mO K h o L (upd iv 11 (nI (n + (k + 1)))) (mu av 10 (qPut (av 10) n (l.take (k + 1)))))) (by simp only [mu_s, mu_mu, upd_upd, nI_1, sCh_k hck, nar_k hck, qPut_t hlt, Nat.add_assoc]) ?_
      refine g_iinc (lv' := [(2, .int ((nI k) + 1)), (0, .ref o), (1, .ref a)]) (v := (nI k) + 1) F dX4_says_34 (k := 2) rfl rfl (by decide) rfl ?_
      refine g_goto (tgt := 2) F dX4_says_37 (by decide) ?_
      refine g_lv (lv' := [(0, .ref o), (1, .ref a), (2, .int ((nI k) + 1))]) [1, 2, 0] rfl ?_
      exact g_eql (lv' := [(0, .ref o), (1, .ref a), (2, .int (nI (k + 1)))]) (by simp only [nI_1]) (ih hlt)
  exact lp 0 (Nat.zero_le _)
set_option maxHeartbeats 4000000 in
set_option maxRecDepth 100000 in
theorem ct_X4_saysNumber1 {K : gK} {h : AH} {o : Nat} {L : Nat → Nat} {iv : Nat → Int32} {av : Nat → Nat → Int32} (hN : mN K o L) {x n : Nat} (h11 : iv 11 = nI n) (hx : x < 10) (hn : n ≤ 190) : gCt K yX4_saysNumber w_X4_saysNumber 0 0 0 0 (mO K h o L iv av) [.ref o, .int (nI x)] (pV (mO K h o L (upd iv 11 (nI (n + (qDg x).length))) (mu av 10 (qPut (av 10) n (qDg x))))) := by
  refine g_meth pf_X4_saysNumber (nle rfl) (fun p e s m args below meth c F hnm htb => ?_)
  have F : gFix K p s m args meth c cX4_saysNumber 2 RX4 none := F
  refine g_eql (lv' := [(0, .ref o), (1, .int (nI x))]) rfl ?_
  refine g_iload_n F dX4_saysNumber_0 1 rfl rfl ?_
  refine g_bipush (v := 9) F dX4_saysNumber_1 rfl ?_
  refine g_icmp_le (tgt := 14) F dX4_saysNumber_3 (by decide) (fun c1 => ?_) (fun c1 => absurd (show nI x ≤ nI 9 from nI_le (by omega) (by decide)) c1)
  refine g_aload_n F dX4_saysNumber_14 0 rfl rfl ?_
  refine gf_X4_25_X4 (v := .ref (L 10)) F dX4_saysNumber_15 mO_o rfl ?_
  refine g_aload_n F dX4_saysNumber_18 0 rfl rfl ?_
  refine gf_X4_209_X4 (v := .int (iv 11)) F dX4_saysNumber_19 mO_o rfl ?_
  refine g_eqs (st' := [.int (nI n), .ref (L 10)]) (by rw [h11]) ?_
  refine g_bipush (v := 48) F dX4_saysNumber_22 rfl ?_
  refine g_iload_n F dX4_saysNumber_24 1 rfl rfl ?_
  refine g_bipush (v := 10) F dX4_saysNumber_25 rfl ?_
  refine g_irem F dX4_saysNumber_27 (by decide) ?_
  refine g_eqs (st' := [.int (nI (x % 10)), .int 48, .int (nI n), .ref (L 10)]) (by rw [show (10 : Int32) = nI 10 from rfl, pk_rem (by omega) (by decide) (by decide)]) ?_
  refine g_iadd F dX4_saysNumber_28 ?_
  refine g_i2c F dX4_saysNumber_29 rfl ?_
  refine g_mcast hN (i := n) F rfl (show n = n by omega) (by omega) dX4_saysNumber_30 ?_
  refine g_aload_n F dX4_saysNumber_31 0 rfl rfl ?_
  refine g_dup F dX4_saysNumber_32 rfl ?_
  refine gf_X4_209_X4 (v := .int (iv 11)) F dX4_saysNumber_33 mO_o rfl ?_
  refine g_eqs (st' := [.int (nI n), .ref o]) (by rw [h11]) ?_
  refine g_iconst (v := 1) F dX4_saysNumber_36 rfl ?_
  refine g_iadd F dX4_saysNumber_37 ?_
  refine gp_X4_209_X4 F dX4_saysNumber_38 mO_o hN.1 (nle rfl) rfl (fun h_e2 e2 => ?_)
  refine g_mput (iv2 := upd iv 11 ((nI n) + 1)) e2 rfl ?_
  exact g_vret F dX4_saysNumber_41 (⟨rfl, by rw [qDg_1 (by omega), ← qPut_1]; simp only [nI_1, List.length_singleton, chr48 (show x % 10 < 10 by omega)]⟩)
set_option maxHeartbeats 4000000 in
set_option maxRecDepth 100000 in
theorem ct_X4_saysNumber2 {K : gK} {h : AH} {o : Nat} {L : Nat → Nat} {iv : Nat → Int32} {av : Nat → Nat → Int32} (hN : mN K o L) {x n : Nat} (h11 : iv 11 = nI n) (hx : x < 100) (hn : n ≤ 190) : gCt K yX4_saysNumber w_X4_saysNumber 1 21 0 0 (mO K h o L iv av) [.ref o, .int (nI x)] (pV (mO K h o L (upd iv 11 (nI (n + (qDg x).length))) (mu av 10 (qPut (av 10) n (qDg x))))) := by
  refine g_meth pf_X4_saysNumber (nle rfl) (fun p e s m args below meth c F hnm htb => ?_)
  have F : gFix K p s m args meth c cX4_saysNumber 2 RX4 none := F
  refine g_eql (lv' := [(0, .ref o), (1, .int (nI x))]) rfl ?_
  refine g_iload_n F dX4_saysNumber_0 1 rfl rfl ?_
  refine g_bipush (v := 9) F dX4_saysNumber_1 rfl ?_
  refine g_icmp_le (tgt := 14) F dX4_saysNumber_3 (by decide) (fun c1 => ?_) (fun c1 => ?_)
  · have hx9 : x ≤ 9 := (nI_leI (b := 9) (by omega) (by decide)).mp c1
    refine g_aload_n F dX4_saysNumber_14 0 rfl rfl ?_
    refine gf_X4_25_X4 (v := .ref (L 10)) F dX4_saysNumber_15 mO_o rfl ?_
    refine g_aload_n F dX4_saysNumber_18 0 rfl rfl ?_
    refine gf_X4_209_X4 (v := .int (iv 11)) F dX4_saysNumber_19 mO_o rfl ?_
    refine g_eqs (st' := [.int (nI n), .ref (L 10)]) (by rw [h11]) ?_
    refine g_bipush (v := 48) F dX4_saysNumber_22 rfl ?_
    refine g_iload_n F dX4_saysNumber_24 1 rfl rfl ?_
    refine g_bipush (v := 10) F dX4_saysNumber_25 rfl ?_
    refine g_irem F dX4_saysNumber_27 (by decide) ?_
    refine g_eqs (st' := [.int (nI (x % 10)), .int 48, .int (nI n), .ref (L 10)]) (by rw [show (10 : Int32) = nI 10 from rfl, pk_rem (by omega) (by decide) (by decide)]) ?_
    refine g_iadd F dX4_saysNumber_28 ?_
    refine g_i2c F dX4_saysNumber_29 rfl ?_
    refine g_mcast hN (i := n) F rfl (show n = n by omega) (by omega) dX4_saysNumber_30 ?_
    refine g_aload_n F dX4_saysNumber_31 0 rfl rfl ?_
    refine g_dup F dX4_saysNumber_32 rfl ?_
    refine gf_X4_209_X4 (v := .int (iv 11)) F dX4_saysNumber_33 mO_o rfl ?_
    refine g_eqs (st' := [.int (nI n), .ref o]) (by rw [h11]) ?_
    refine g_iconst (v := 1) F dX4_saysNumber_36 rfl ?_
    refine g_iadd F dX4_saysNumber_37 ?_
    refine gp_X4_209_X4 F dX4_saysNumber_38 mO_o hN.1 (nle rfl) rfl (fun h_e2 e2 => ?_)
    refine g_mput (iv2 := upd iv 11 ((nI n) + 1)) e2 rfl ?_
    exact g_vret F dX4_saysNumber_41 (⟨rfl, by rw [qDg_1 (by omega), ← qPut_1]; simp only [nI_1, List.length_singleton, chr48 (show x % 10 < 10 by omega)]⟩)
  · have hx9 : ¬ x ≤ 9 := fun z => c1 (nI_le (a := x) (b := 9) z (by decide))
    have hdl := qDg_n (x := x / 10)
    refine g_aload_n F dX4_saysNumber_6 0 rfl rfl ?_
    refine g_iload_n F dX4_saysNumber_7 1 rfl rfl ?_
    refine g_bipush (v := 10) F dX4_saysNumber_8 rfl ?_
    refine g_idiv F dX4_saysNumber_10 (by decide) ?_
    refine g_eqs (st' := [.int (nI (x / 10)), .ref o]) (by rw [show (10 : Int32) = nI 10 from rfl, pk_div (by omega) (by decide) (by decide)]) ?_
    refine g_callV F dX4_saysNumber_11 mi_X4_saysNumber q2580 q2582 qs57 gc_X4 mO_o (ct_X4_saysNumber1 hN (x := x / 10) h11 (by omega) (by omega)) rfl rfl (nle rfl) (nle rfl) (nle rfl) (g_purv ?_) g_purvX
    refine g_aload_n F dX4_saysNumber_14 0 rfl rfl ?_
    refine gf_X4_25_X4 (v := .ref (L 10)) F dX4_saysNumber_15 mO_o rfl ?_
    refine g_aload_n F dX4_saysNumber_18 0 rfl rfl ?_
    refine gf_X4_209_X4 (v := .int (nI (n + (qDg (x / 10)).length))) F dX4_saysNumber_19 mO_o rfl ?_
    refine g_bipush (v := 48) F dX4_saysNumber_22 rfl ?_
    refine g_iload_n F dX4_saysNumber_24 1 rfl rfl ?_
    refine g_bipush (v := 10) F dX4_saysNumber_25 rfl ?_
    refine g_irem F dX4_saysNumber_27 (by decide) ?_
    refine g_eqs (st' := [.int (nI (x % 10)), .int 48, .int (nI (n + (qDg (x / 10)).length)), .ref (L 10)]) (by rw [show (10 : Int32) = nI 10 from rfl, pk_rem (by omega) (by decide) (by decide)]) ?_
    refine g_iadd F dX4_saysNumber_28 ?_
    refine g_i2c F dX4_saysNumber_29 rfl ?_
    refine g_mcast hN (i := n + (qDg (x / 10)).length) F rfl (show (n + (qDg (x / 10)).length) = n + (qDg (x / 10)).length by omega) (by omega) dX4_saysNumber_30 ?_
    refine g_eqh (h' := (mO K h o L (upd iv 11 (nI (n + (qDg (x / 10)).length))) (mu av 10 (upd (qPut (av 10) n (qDg (x / 10))) (n + (qDg (x / 10)).length) (vp_nar .char (((48 + (nI (x % 10))).toUInt32 % 65536).toInt32)))))) (by simp only [mu_s, mu_mu]; try rfl) ?_
    refine g_aload_n F dX4_saysNumber_31 0 rfl rfl ?_
    refine g_dup F dX4_saysNumber_32 rfl ?_
    refine gf_X4_209_X4 (v := .int (nI (n + (qDg (x / 10)).length))) F dX4_saysNumber_33 mO_o rfl ?_
    refine g_iconst (v := 1) F dX4_saysNumber_36 rfl ?_
    refine g_iadd F dX4_saysNumber_37 ?_
    refine gp_X4_209_X4 F dX4_saysNumber_38 mO_o hN.1 (nle rfl) rfl (fun h_e3 e3 => ?_)
    refine g_mput (iv2 := upd (upd iv 11 (nI (n + (qDg (x / 10)).length))) 11 ((nI (n + (qDg (x / 10)).length)) + 1)) e3 rfl ?_
    exact g_vret F dX4_saysNumber_41 (⟨rfl, by rw [qDg_s (x := x) (by omega) (by omega), ← qPut_a, ← qPut_1]; simp only [mu_s, mu_mu, upd_upd, nI_1, List.length_append, List.length_singleton, Nat.add_assoc, chr48 (show x % 10 < 10 by omega)]⟩)
set_option maxHeartbeats 4000000 in
set_option maxRecDepth 100000 in
theorem ct_X4_saysNumber3 {K : gK} {h : AH} {o : Nat} {L : Nat → Nat} {iv : Nat → Int32} {av : Nat → Nat → Int32} (hN : mN K o L) {x n : Nat} (h11 : iv 11 = nI n) (hx : x < 1000) (hn : n ≤ 190) : gCt K yX4_saysNumber w_X4_saysNumber 2 42 0 0 (mO K h o L iv av) [.ref o, .int (nI x)] (pV (mO K h o L (upd iv 11 (nI (n + (qDg x).length))) (mu av 10 (qPut (av 10) n (qDg x))))) := by
  refine g_meth pf_X4_saysNumber (nle rfl) (fun p e s m args below meth c F hnm htb => ?_)
  have F : gFix K p s m args meth c cX4_saysNumber 2 RX4 none := F
  refine g_eql (lv' := [(0, .ref o), (1, .int (nI x))]) rfl ?_
  refine g_iload_n F dX4_saysNumber_0 1 rfl rfl ?_
  refine g_bipush (v := 9) F dX4_saysNumber_1 rfl ?_
  refine g_icmp_le (tgt := 14) F dX4_saysNumber_3 (by decide) (fun c1 => ?_) (fun c1 => ?_)
  · have hx9 : x ≤ 9 := (nI_leI (b := 9) (by omega) (by decide)).mp c1
    refine g_aload_n F dX4_saysNumber_14 0 rfl rfl ?_
    refine gf_X4_25_X4 (v := .ref (L 10)) F dX4_saysNumber_15 mO_o rfl ?_
    refine g_aload_n F dX4_saysNumber_18 0 rfl rfl ?_
    refine gf_X4_209_X4 (v := .int (iv 11)) F dX4_saysNumber_19 mO_o rfl ?_
    refine g_eqs (st' := [.int (nI n), .ref (L 10)]) (by rw [h11]) ?_
    refine g_bipush (v := 48) F dX4_saysNumber_22 rfl ?_
    refine g_iload_n F dX4_saysNumber_24 1 rfl rfl ?_
    refine g_bipush (v := 10) F dX4_saysNumber_25 rfl ?_
    refine g_irem F dX4_saysNumber_27 (by decide) ?_
    refine g_eqs (st' := [.int (nI (x % 10)), .int 48, .int (nI n), .ref (L 10)]) (by rw [show (10 : Int32) = nI 10 from rfl, pk_rem (by omega) (by decide) (by decide)]) ?_
    refine g_iadd F dX4_saysNumber_28 ?_
    refine g_i2c F dX4_saysNumber_29 rfl ?_
    refine g_mcast hN (i := n) F rfl (show n = n by omega) (by omega) dX4_saysNumber_30 ?_
    refine g_aload_n F dX4_saysNumber_31 0 rfl rfl ?_
    refine g_dup F dX4_saysNumber_32 rfl ?_
    refine gf_X4_209_X4 (v := .int (iv 11)) F dX4_saysNumber_33 mO_o rfl ?_
    refine g_eqs (st' := [.int (nI n), .ref o]) (by rw [h11]) ?_
    refine g_iconst (v := 1) F dX4_saysNumber_36 rfl ?_
    refine g_iadd F dX4_saysNumber_37 ?_
    refine gp_X4_209_X4 F dX4_saysNumber_38 mO_o hN.1 (nle rfl) rfl (fun h_e2 e2 => ?_)
    refine g_mput (iv2 := upd iv 11 ((nI n) + 1)) e2 rfl ?_
    exact g_vret F dX4_saysNumber_41 (⟨rfl, by rw [qDg_1 (by omega), ← qPut_1]; simp only [nI_1, List.length_singleton, chr48 (show x % 10 < 10 by omega)]⟩)
  · have hx9 : ¬ x ≤ 9 := fun z => c1 (nI_le (a := x) (b := 9) z (by decide))
    have hdl := qDg_n (x := x / 10)
    refine g_aload_n F dX4_saysNumber_6 0 rfl rfl ?_
    refine g_iload_n F dX4_saysNumber_7 1 rfl rfl ?_
    refine g_bipush (v := 10) F dX4_saysNumber_8 rfl ?_
    refine g_idiv F dX4_saysNumber_10 (by decide) ?_
    refine g_eqs (st' := [.int (nI (x / 10)), .ref o]) (by rw [show (10 : Int32) = nI 10 from rfl, pk_div (by omega) (by decide) (by decide)]) ?_
    refine g_callV F dX4_saysNumber_11 mi_X4_saysNumber q2580 q2582 qs57 gc_X4 mO_o (ct_X4_saysNumber2 hN (x := x / 10) h11 (by omega) (by omega)) rfl rfl (nle rfl) (nle rfl) (nle rfl) (g_purv ?_) g_purvX
    refine g_aload_n F dX4_saysNumber_14 0 rfl rfl ?_
    refine gf_X4_25_X4 (v := .ref (L 10)) F dX4_saysNumber_15 mO_o rfl ?_
    refine g_aload_n F dX4_saysNumber_18 0 rfl rfl ?_
    refine gf_X4_209_X4 (v := .int (nI (n + (qDg (x / 10)).length))) F dX4_saysNumber_19 mO_o rfl ?_
    refine g_bipush (v := 48) F dX4_saysNumber_22 rfl ?_
    refine g_iload_n F dX4_saysNumber_24 1 rfl rfl ?_
    refine g_bipush (v := 10) F dX4_saysNumber_25 rfl ?_
    refine g_irem F dX4_saysNumber_27 (by decide) ?_
    refine g_eqs (st' := [.int (nI (x % 10)), .int 48, .int (nI (n + (qDg (x / 10)).length)), .ref (L 10)]) (by rw [show (10 : Int32) = nI 10 from rfl, pk_rem (by omega) (by decide) (by decide)]) ?_
    refine g_iadd F dX4_saysNumber_28 ?_
    refine g_i2c F dX4_saysNumber_29 rfl ?_
    refine g_mcast hN (i := n + (qDg (x / 10)).length) F rfl (show (n + (qDg (x / 10)).length) = n + (qDg (x / 10)).length by omega) (by omega) dX4_saysNumber_30 ?_
    refine g_eqh (h' := (mO K h o L (upd iv 11 (nI (n + (qDg (x / 10)).length))) (mu av 10 (upd (qPut (av 10) n (qDg (x / 10))) (n + (qDg (x / 10)).length) (vp_nar .char (((48 + (nI (x % 10))).toUInt32 % 65536).toInt32)))))) (by simp only [mu_s, mu_mu]; try rfl) ?_
    refine g_aload_n F dX4_saysNumber_31 0 rfl rfl ?_
    refine g_dup F dX4_saysNumber_32 rfl ?_
    refine gf_X4_209_X4 (v := .int (nI (n + (qDg (x / 10)).length))) F dX4_saysNumber_33 mO_o rfl ?_
    refine g_iconst (v := 1) F dX4_saysNumber_36 rfl ?_
    refine g_iadd F dX4_saysNumber_37 ?_
    refine gp_X4_209_X4 F dX4_saysNumber_38 mO_o hN.1 (nle rfl) rfl (fun h_e3 e3 => ?_)
    refine g_mput (iv2 := upd (upd iv 11 (nI (n + (qDg (x / 10)).length))) 11 ((nI (n + (qDg (x / 10)).length)) + 1)) e3 rfl ?_
    exact g_vret F dX4_saysNumber_41 (⟨rfl, by rw [qDg_s (x := x) (by omega) (by omega), ← qPut_a, ← qPut_1]; simp only [mu_s, mu_mu, upd_upd, nI_1, List.length_append, List.length_singleton, Nat.add_assoc, chr48 (show x % 10 < 10 by omega)]⟩)
set_option maxHeartbeats 4000000 in
set_option maxRecDepth 100000 in
theorem ct_X4_saysNumber4 {K : gK} {h : AH} {o : Nat} {L : Nat → Nat} {iv : Nat → Int32} {av : Nat → Nat → Int32} (hN : mN K o L) {x n : Nat} (h11 : iv 11 = nI n) (hx : x < 10000) (hn : n ≤ 190) : gCt K yX4_saysNumber w_X4_saysNumber 3 63 0 0 (mO K h o L iv av) [.ref o, .int (nI x)] (pV (mO K h o L (upd iv 11 (nI (n + (qDg x).length))) (mu av 10 (qPut (av 10) n (qDg x))))) := by
  refine g_meth pf_X4_saysNumber (nle rfl) (fun p e s m args below meth c F hnm htb => ?_)
  have F : gFix K p s m args meth c cX4_saysNumber 2 RX4 none := F
  refine g_eql (lv' := [(0, .ref o), (1, .int (nI x))]) rfl ?_
  refine g_iload_n F dX4_saysNumber_0 1 rfl rfl ?_
  refine g_bipush (v := 9) F dX4_saysNumber_1 rfl ?_
  refine g_icmp_le (tgt := 14) F dX4_saysNumber_3 (by decide) (fun c1 => ?_) (fun c1 => ?_)
  · have hx9 : x ≤ 9 := (nI_leI (b := 9) (by omega) (by decide)).mp c1
    refine g_aload_n F dX4_saysNumber_14 0 rfl rfl ?_
    refine gf_X4_25_X4 (v := .ref (L 10)) F dX4_saysNumber_15 mO_o rfl ?_
    refine g_aload_n F dX4_saysNumber_18 0 rfl rfl ?_
    refine gf_X4_209_X4 (v := .int (iv 11)) F dX4_saysNumber_19 mO_o rfl ?_
    refine g_eqs (st' := [.int (nI n), .ref (L 10)]) (by rw [h11]) ?_
    refine g_bipush (v := 48) F dX4_saysNumber_22 rfl ?_
    refine g_iload_n F dX4_saysNumber_24 1 rfl rfl ?_
    refine g_bipush (v := 10) F dX4_saysNumber_25 rfl ?_
    refine g_irem F dX4_saysNumber_27 (by decide) ?_
    refine g_eqs (st' := [.int (nI (x % 10)), .int 48, .int (nI n), .ref (L 10)]) (by rw [show (10 : Int32) = nI 10 from rfl, pk_rem (by omega) (by decide) (by decide)]) ?_
    refine g_iadd F dX4_saysNumber_28 ?_
    refine g_i2c F dX4_saysNumber_29 rfl ?_
    refine g_mcast hN (i := n) F rfl (show n = n by omega) (by omega) dX4_saysNumber_30 ?_
    refine g_aload_n F dX4_saysNumber_31 0 rfl rfl ?_
    refine g_dup F dX4_saysNumber_32 rfl ?_
    refine gf_X4_209_X4 (v := .int (iv 11)) F dX4_saysNumber_33 mO_o rfl ?_
    refine g_eqs (st' := [.int (nI n), .ref o]) (by rw [h11]) ?_
    refine g_iconst (v := 1) F dX4_saysNumber_36 rfl ?_
    refine g_iadd F dX4_saysNumber_37 ?_
    refine gp_X4_209_X4 F dX4_saysNumber_38 mO_o hN.1 (nle rfl) rfl (fun h_e2 e2 => ?_)
    refine g_mput (iv2 := upd iv 11 ((nI n) + 1)) e2 rfl ?_
    exact g_vret F dX4_saysNumber_41 (⟨rfl, by rw [qDg_1 (by omega), ← qPut_1]; simp only [nI_1, List.length_singleton, chr48 (show x % 10 < 10 by omega)]⟩)
  · have hx9 : ¬ x ≤ 9 := fun z => c1 (nI_le (a := x) (b := 9) z (by decide))
    have hdl := qDg_n (x := x / 10)
    refine g_aload_n F dX4_saysNumber_6 0 rfl rfl ?_
    refine g_iload_n F dX4_saysNumber_7 1 rfl rfl ?_
    refine g_bipush (v := 10) F dX4_saysNumber_8 rfl ?_
    refine g_idiv F dX4_saysNumber_10 (by decide) ?_
    refine g_eqs (st' := [.int (nI (x / 10)), .ref o]) (by rw [show (10 : Int32) = nI 10 from rfl, pk_div (by omega) (by decide) (by decide)]) ?_
    refine g_callV F dX4_saysNumber_11 mi_X4_saysNumber q2580 q2582 qs57 gc_X4 mO_o (ct_X4_saysNumber3 hN (x := x / 10) h11 (by omega) (by omega)) rfl rfl (nle rfl) (nle rfl) (nle rfl) (g_purv ?_) g_purvX
    refine g_aload_n F dX4_saysNumber_14 0 rfl rfl ?_
    refine gf_X4_25_X4 (v := .ref (L 10)) F dX4_saysNumber_15 mO_o rfl ?_
    refine g_aload_n F dX4_saysNumber_18 0 rfl rfl ?_
    refine gf_X4_209_X4 (v := .int (nI (n + (qDg (x / 10)).length))) F dX4_saysNumber_19 mO_o rfl ?_
    refine g_bipush (v := 48) F dX4_saysNumber_22 rfl ?_
    refine g_iload_n F dX4_saysNumber_24 1 rfl rfl ?_
    refine g_bipush (v := 10) F dX4_saysNumber_25 rfl ?_
    refine g_irem F dX4_saysNumber_27 (by decide) ?_
    refine g_eqs (st' := [.int (nI (x % 10)), .int 48, .int (nI (n + (qDg (x / 10)).length)), .ref (L 10)]) (by rw [show (10 : Int32) = nI 10 from rfl, pk_rem (by omega) (by decide) (by decide)]) ?_
    refine g_iadd F dX4_saysNumber_28 ?_
    refine g_i2c F dX4_saysNumber_29 rfl ?_
    refine g_mcast hN (i := n + (qDg (x / 10)).length) F rfl (show (n + (qDg (x / 10)).length) = n + (qDg (x / 10)).length by omega) (by omega) dX4_saysNumber_30 ?_
    refine g_eqh (h' := (mO K h o L (upd iv 11 (nI (n + (qDg (x / 10)).length))) (mu av 10 (upd (qPut (av 10) n (qDg (x / 10))) (n + (qDg (x / 10)).length) (vp_nar .char (((48 + (nI (x % 10))).toUInt32 % 65536).toInt32)))))) (by simp only [mu_s, mu_mu]; try rfl) ?_
    refine g_aload_n F dX4_saysNumber_31 0 rfl rfl ?_
    refine g_dup F dX4_saysNumber_32 rfl ?_
    refine gf_X4_209_X4 (v := .int (nI (n + (qDg (x / 10)).length))) F dX4_saysNumber_33 mO_o rfl ?_
    refine g_iconst (v := 1) F dX4_saysNumber_36 rfl ?_
    refine g_iadd F dX4_saysNumber_37 ?_
    refine gp_X4_209_X4 F dX4_saysNumber_38 mO_o hN.1 (nle rfl) rfl (fun h_e3 e3 => ?_)
    refine g_mput (iv2 := upd (upd iv 11 (nI (n + (qDg (x / 10)).length))) 11 ((nI (n + (qDg (x / 10)).length)) + 1)) e3 rfl ?_
    exact g_vret F dX4_saysNumber_41 (⟨rfl, by rw [qDg_s (x := x) (by omega) (by omega), ← qPut_a, ← qPut_1]; simp only [mu_s, mu_mu, upd_upd, nI_1, List.length_append, List.length_singleton, Nat.add_assoc, chr48 (show x % 10 < 10 by omega)]⟩)
