/-! ===== ArrayDeque (written by tools/class24.py) ===== -/
set_option maxHeartbeats 4000000 in
set_option maxRecDepth 100000 in
theorem ct_J3_sub {K : gK} {h : AH} {i j m0 : Nat} (hi : i < 2 ^ 20) (hj : j < 2 ^ 20) (hm : m0 < 2 ^ 20) (hij : j ≤ i + m0) : gCt K yJ3_sub w_J3_sub 0 0 0 0 h [.int (nI i), .int (nI j), .int (nI m0)] (pR (.int (nI (if j ≤ i then i - j else i + m0 - j))) h) := by
  refine g_meth pf_J3_sub (nle rfl) (fun p e s m args below meth c F hnm htb => ?_)
  have F : gFix K p s m args meth c cJ3_sub 3 RJ3 (some .int) := F
  refine g_eql (lv' := [(0, .int (nI i)), (1, .int (nI j)), (2, .int (nI m0))]) rfl ?_
  refine g_iload_n F dJ3_sub_0 0 rfl rfl ?_
  refine g_iload_n F dJ3_sub_1 1 rfl rfl ?_
  refine g_isub F dJ3_sub_2 ?_
  refine g_dup F dJ3_sub_3 rfl ?_
  refine g_istore_n (lv' := [(0, .int ((nI i) - (nI j))), (1, .int (nI j)), (2, .int (nI m0))]) F dJ3_sub_4 rfl (by decide) rfl ?_
  refine g_if_ge (tgt := 12) F dJ3_sub_5 (by decide) (fun c1 => ?_) (fun c1 => ?_)
  · have d0 : j ≤ i := (ge_sub hi hj).mp c1
    refine g_iload_n F dJ3_sub_12 0 rfl rfl ?_
    exact g_iret F dJ3_sub_13 (⟨by first | rw [if_pos d0, pk_sub d0] | rw [if_neg d0, dq_sub hi hj hm hij], rfl⟩)
  · have d0 : ¬ j ≤ i := fun z => c1 ((ge_sub hi hj).mpr z)
    refine g_iload_n F dJ3_sub_8 0 rfl rfl ?_
    refine g_iload_n F dJ3_sub_9 2 rfl rfl ?_
    refine g_iadd F dJ3_sub_10 ?_
    refine g_istore_n (lv' := [(0, .int (((nI i) - (nI j)) + (nI m0))), (1, .int (nI j)), (2, .int (nI m0))]) F dJ3_sub_11 rfl (by decide) rfl ?_
    refine g_iload_n F dJ3_sub_12 0 rfl rfl ?_
    exact g_iret F dJ3_sub_13 (⟨by first | rw [if_pos d0, pk_sub d0] | rw [if_neg d0, dq_sub hi hj hm hij], rfl⟩)
set_option maxHeartbeats 4000000 in
set_option maxRecDepth 100000 in
theorem ct_J3_size {K : gK} {h : AH} {a e0 hd np : Nat} {p0 : Nat → Nat} (ha : h a = some (.inr (5, [.ref e0, .int (nI hd), .int (nI ((hd + np) % 17))]))) (hao : gOld K a = none) (he : h e0 = some (.inl (gT K 6, 17, .inr (.inr (.inr (.inr (dqD hd np p0))))))) (heo : gOld K e0 = none) (hh : hd < 17) (hn : np ≤ 8) : gCt K yJ3_size w_J3_size 1 22 0 0 h [.ref a] (pR (.int (nI np)) h) := by
  refine g_meth pf_J3_size (nle rfl) (fun p e s m args below meth c F hnm htb => ?_)
  have F : gFix K p s m args meth c cJ3_size 1 RJ3 (some .int) := F
  refine g_eql (lv' := [(0, .ref a)]) rfl ?_
  refine g_aload_n F dJ3_size_0 0 rfl rfl ?_
  refine gf_J3_20_J3 (v := .int (nI ((hd + np) % 17))) F dJ3_size_1 ha rfl ?_
  refine g_aload_n F dJ3_size_4 0 rfl rfl ?_
  refine gf_J3_24_J3 (v := .int (nI hd)) F dJ3_size_5 ha rfl ?_
  refine g_aload_n F dJ3_size_8 0 rfl rfl ?_
  refine gf_J3_3_J3 (v := .ref e0) F dJ3_size_9 ha rfl ?_
  refine g_alen F (by decide) he dJ3_size_12 ?_
  refine g_callS F dJ3_size_13 mi_J3_sub q1081 q1082 (ct_J3_sub (i := ((hd + np) % 17)) (j := hd) (m0 := 17) (by omega) (by omega) (by omega) (by omega)) rfl rfl (nle rfl) (nle rfl) (nle rfl) (g_pur ?_) g_purX
  refine g_eqs (st' := [.int (nI np)]) (by rw [show (((if hd ≤ ((hd + np) % 17) then ((hd + np) % 17) - hd else ((hd + np) % 17) + 17 - hd)) : Nat) = (np) from by split <;> omega]) ?_
  exact g_iret F dJ3_size_16 (⟨rfl, rfl⟩)
set_option maxHeartbeats 4000000 in
set_option maxRecDepth 100000 in
theorem ct_J3_isEmpty {K : gK} {h : AH} {a e0 hd np : Nat} {p0 : Nat → Nat} (ha : h a = some (.inr (5, [.ref e0, .int (nI hd), .int (nI ((hd + np) % 17))]))) (hao : gOld K a = none) (he : h e0 = some (.inl (gT K 6, 17, .inr (.inr (.inr (.inr (dqD hd np p0))))))) (heo : gOld K e0 = none) (hh : hd < 17) (hn : np ≤ 8) : gCt K yJ3_isEmpty w_J3_isEmpty 0 0 0 0 h [.ref a] (pR (.int (if np = 0 then 1 else 0)) h) := by
  refine g_meth pf_J3_isEmpty (nle rfl) (fun p e s m args below meth c F hnm htb => ?_)
  have F : gFix K p s m args meth c cJ3_isEmpty 1 RJ3 (some .boolean) := F
  refine g_eql (lv' := [(0, .ref a)]) rfl ?_
  refine g_aload_n F dJ3_isEmpty_0 0 rfl rfl ?_
  refine gf_J3_24_J3 (v := .int (nI hd)) F dJ3_isEmpty_1 ha rfl ?_
  refine g_aload_n F dJ3_isEmpty_4 0 rfl rfl ?_
  refine gf_J3_20_J3 (v := .int (nI ((hd + np) % 17))) F dJ3_isEmpty_5 ha rfl ?_
  refine g_icmp_ne (tgt := 15) F dJ3_isEmpty_8 (by decide) (fun c1 => ?_) (fun c1 => ?_)
  · have d0 : ¬ np = 0 := fun z => c1 (by subst z; congr 1; omega)
    refine g_iconst (v := 0) F dJ3_isEmpty_15 rfl ?_
    exact g_zret F dJ3_isEmpty_16 (by first | rfl | exact mIn_n | (split <;> rfl) | decide) (⟨by simp [d0], rfl⟩)
  · have d0 : np = 0 := by have : hd = (hd + np) % 17 := (nI_eq (by omega) (by omega)).mp c1; omega
    refine g_iconst (v := 1) F dJ3_isEmpty_11 rfl ?_
    refine g_goto (tgt := 16) F dJ3_isEmpty_12 (by decide) ?_
    exact g_zret F dJ3_isEmpty_16 (by first | rfl | exact mIn_n | (split <;> rfl) | decide) (⟨by simp [d0], rfl⟩)
set_option maxHeartbeats 4000000 in
set_option maxRecDepth 100000 in
theorem ct_J3_inc {K : gK} {h : AH} {i m0 : Nat} (hi : i < 2 ^ 20) (hm : m0 < 2 ^ 20) : gCt K yJ3_inc w_J3_inc 0 0 0 0 h [.int (nI i), .int (nI m0)] (pR (.int (nI (if i + 1 < m0 then i + 1 else 0))) h) := by
  refine g_meth pf_J3_inc (nle rfl) (fun p e s m args below meth c F hnm htb => ?_)
  have F : gFix K p s m args meth c cJ3_inc 2 RJ3 (some .int) := F
  refine g_eql (lv' := [(0, .int (nI i)), (1, .int (nI m0))]) rfl ?_
  refine g_iinc (lv' := [(0, .int ((nI i) + 1)), (1, .int (nI m0))]) (v := (nI i) + 1) F dJ3_inc_0 (k := 0) rfl rfl (by decide) rfl ?_
  refine g_iload_n F dJ3_inc_3 0 rfl rfl ?_
  refine g_iload_n F dJ3_inc_4 1 rfl rfl ?_
  refine g_icmp_lt (tgt := 10) F dJ3_inc_5 (by decide) (fun c1 => ?_) (fun c1 => ?_)
  · have d0 : i + 1 < m0 := by rw [nI_1] at c1; exact (nI_ltI (by omega) (by omega)).mp c1
    refine g_iload_n F dJ3_inc_10 0 rfl rfl ?_
    exact g_iret F dJ3_inc_11 (⟨by first | rw [if_pos d0, nI_1] | (rw [if_neg d0]; rfl), rfl⟩)
  · have d0 : ¬ i + 1 < m0 := fun z => c1 (by rw [nI_1]; exact nI_lt z (by omega))
    refine g_iconst (v := 0) F dJ3_inc_8 rfl ?_
    refine g_istore_n (lv' := [(0, .int 0), (1, .int (nI m0))]) F dJ3_inc_9 rfl (by decide) rfl ?_
    refine g_iload_n F dJ3_inc_10 0 rfl rfl ?_
    exact g_iret F dJ3_inc_11 (⟨by first | rw [if_pos d0, nI_1] | (rw [if_neg d0]; rfl), rfl⟩)
set_option maxHeartbeats 4000000 in
set_option maxRecDepth 100000 in
theorem ct_J3_dec {K : gK} {h : AH} {i m0 : Nat} (hi : i < 2 ^ 20) (hm : m0 < 2 ^ 20) (h0 : 0 < m0) : gCt K yJ3_dec w_J3_dec 0 0 0 0 h [.int (nI i), .int (nI m0)] (pR (.int (nI (if i = 0 then m0 - 1 else i - 1))) h) := by
  refine g_meth pf_J3_dec (nle rfl) (fun p e s m args below meth c F hnm htb => ?_)
  have F : gFix K p s m args meth c cJ3_dec 2 RJ3 (some .int) := F
  refine g_eql (lv' := [(0, .int (nI i)), (1, .int (nI m0))]) rfl ?_
  refine g_iinc (lv' := [(0, .int ((nI i) + (-1))), (1, .int (nI m0))]) (v := (nI i) + (-1)) F dJ3_dec_0 (k := 0) rfl rfl (by decide) rfl ?_
  refine g_iload_n F dJ3_dec_3 0 rfl rfl ?_
  refine g_if_ge (tgt := 11) F dJ3_dec_4 (by decide) (fun c1 => ?_) (fun c1 => ?_)
  · have d0 : ¬ i = 0 := fun z => by subst z; exact absurd c1 (by decide)
    refine g_iload_n F dJ3_dec_11 0 rfl rfl ?_
    exact g_iret F dJ3_dec_12 (⟨by first | (rw [if_pos d0]; obtain ⟨m1, rfl⟩ : ∃ m1, m0 = m1 + 1 := ⟨m0 - 1, by omega⟩; rw [nI_pred]; rfl) | (rw [if_neg d0]; obtain ⟨i1, rfl⟩ : ∃ i1, i = i1 + 1 := ⟨i - 1, by omega⟩; rw [pk_m1]; rfl), rfl⟩)
  · have d0 : i = 0 := by rcases i with _ | i; rfl; exfalso; exact c1 (by rw [pk_m1]; exact nI_pos' (by omega))
    refine g_iload_n F dJ3_dec_7 1 rfl rfl ?_
    refine g_iconst (v := 1) F dJ3_dec_8 rfl ?_
    refine g_isub F dJ3_dec_9 ?_
    refine g_istore_n (lv' := [(0, .int ((nI m0) - 1)), (1, .int (nI m0))]) F dJ3_dec_10 rfl (by decide) rfl ?_
    refine g_iload_n F dJ3_dec_11 0 rfl rfl ?_
    exact g_iret F dJ3_dec_12 (⟨by first | (rw [if_pos d0]; obtain ⟨m1, rfl⟩ : ∃ m1, m0 = m1 + 1 := ⟨m0 - 1, by omega⟩; rw [nI_pred]; rfl) | (rw [if_neg d0]; obtain ⟨i1, rfl⟩ : ∃ i1, i = i1 + 1 := ⟨i - 1, by omega⟩; rw [pk_m1]; rfl), rfl⟩)
set_option maxHeartbeats 4000000 in
set_option maxRecDepth 100000 in
theorem ct_J3_elementAt {K : gK} {h : AH} {e0 i q0 : Nat} {D : Nat → Option Nat} (he : h e0 = some (.inl (gT K 6, 17, .inr (.inr (.inr (.inr D)))))) (heo : gOld K e0 = none) (hi : i < 17) (hq : D i = some q0) : gCt K yJ3_elementAt w_J3_elementAt 0 0 0 0 h [.ref e0, .int (nI i)] (pR (.ref q0) h) := by
  refine g_meth pf_J3_elementAt (nle rfl) (fun p e s m args below meth c F hnm htb => ?_)
  have F : gFix K p s m args meth c cJ3_elementAt 2 RJ3 (some (.object "java/lang/Object")) := F
  refine g_eql (lv' := [(0, .ref e0), (1, .int (nI i))]) rfl ?_
  refine g_aload_n F dJ3_elementAt_0 0 rfl rfl ?_
  refine g_iload_n F dJ3_elementAt_1 1 rfl rfl ?_
  refine g_aaldN (i := i) (v := .ref q0) F he heo rfl (show i = i by omega) (by omega) (by decide) (by rw [hq]; rfl) dJ3_elementAt_2 ?_
  exact g_aret F dJ3_elementAt_3 (Or.inl ⟨_, rfl⟩) (Or.inr ⟨_, rfl⟩) (⟨rfl, rfl⟩)
set_option maxHeartbeats 4000000 in
set_option maxRecDepth 100000 in
theorem ct_J3_addLast {K : gK} {h : AH} {a e0 hd np : Nat} {p0 : Nat → Nat} (ha : h a = some (.inr (5, [.ref e0, .int (nI hd), .int (nI ((hd + np) % 17))]))) (hao : gOld K a = none) (he : h e0 = some (.inl (gT K 6, 17, .inr (.inr (.inr (.inr (dqD hd np p0))))))) (heo : gOld K e0 = none) (hh : hd < 17) (hn : np ≤ 8) {y : Nat} (hy : gOb h y) : gCt K yJ3_addLast w_J3_addLast 1 21 0 0 h [.ref a, .ref y] (pV (gu (gu h e0 (.inl (gT K 6, 17, .inr (.inr (.inr (.inr (dqD hd (np + 1) (lsP p0 np y)))))))) a (.inr (5, [.ref e0, .int (nI hd), .int (nI ((hd + (np + 1)) % 17))])))) := by
  refine g_meth pf_J3_addLast (nle rfl) (fun p e s m args below meth c F hnm htb => ?_)
  have F : gFix K p s m args meth c cJ3_addLast 3 RJ3 none := F
  refine g_eql (lv' := [(0, .ref a), (1, .ref y)]) rfl ?_
  refine g_aload_n F dJ3_addLast_0 1 rfl rfl ?_
  refine g_ifnonnull (tgt := 12) F dJ3_addLast_1 (by decide) ?_
  refine g_aload_n F dJ3_addLast_12 0 rfl rfl ?_
  refine gf_J3_3_J3 (v := .ref e0) F dJ3_addLast_13 ha rfl ?_
  refine g_astore_n (lv' := [(2, .ref e0), (0, .ref a), (1, .ref y)]) F dJ3_addLast_16 rfl (by decide) rfl ?_
  refine g_aload_n F dJ3_addLast_17 0 rfl rfl ?_
  refine g_aload_n F dJ3_addLast_18 1 rfl rfl ?_
  refine gf_J3_20_J3 (v := .int (nI ((hd + np) % 17))) F dJ3_addLast_19 ha rfl ?_
  refine g_aload_n F dJ3_addLast_22 2 rfl rfl ?_
  refine g_aastO (i := (hd + np) % 17) F hy he heo rfl rfl (by omega) (by decide) dJ3_addLast_23 (fun h_1 e2 => ?_)
  have f3 := gu_t e2 ha (gneA ha he)
  have f4 := gu_a e2
  rw [show (va_up (dqD hd np p0) ((hd + np) % 17) (some y)) = (dqD hd (np + 1) (lsP p0 np y)) from dq_add hh (by omega)] at e2
  have f5 := gu_a e2
  refine g_aload_n F dJ3_addLast_24 1 rfl rfl ?_
  refine gf_J3_24_J3 (v := .int (nI hd)) F dJ3_addLast_25 f3 rfl ?_
  refine g_aload_n F dJ3_addLast_28 1 rfl rfl ?_
  refine g_aload_n F dJ3_addLast_29 1 rfl rfl ?_
  refine gf_J3_20_J3 (v := .int (nI ((hd + np) % 17))) F dJ3_addLast_30 f3 rfl ?_
  refine g_aload_n F dJ3_addLast_33 0 rfl rfl ?_
  refine g_alen F (by decide) f5 dJ3_addLast_34 ?_
  refine g_callS F dJ3_addLast_35 mi_J3_inc q1622 q495 (ct_J3_inc (i := ((hd + np) % 17)) (m0 := 17) (by omega) (by omega)) rfl rfl (nle rfl) (nle rfl) (nle rfl) (g_pur ?_) g_purX
  refine g_eqs (st' := [.int (nI ((hd + (np + 1)) % 17)), .ref a, .int (nI hd)]) (by rw [show (((if ((hd + np) % 17) + 1 < 17 then ((hd + np) % 17) + 1 else 0)) : Nat) = ((hd + (np + 1)) % 17) from by split <;> omega]) ?_
  refine g_dup_x1 F dJ3_addLast_38 rfl rfl ?_
  refine gp_J3_20_J3 (fs' := [.ref e0, .int (nI hd), .int (nI ((hd + (np + 1)) % 17))]) F dJ3_addLast_39 f3 hao (nle rfl) rfl (fun h_13 e14 => ?_)
  have f15 := gu_t e14 f5 (gneB f5 f3)
  have f16 := gu_a e14
  refine g_icmp_ne (tgt := 50) F dJ3_addLast_42 (by decide) (fun c17 => ?_) (fun c17 => absurd c17 ((fun z => by have := (nI_eq (by omega) (by omega)).mp z; omega)))
  exact g_vret F dJ3_addLast_50 (⟨rfl, by rw [e14, e2]⟩)
set_option maxHeartbeats 4000000 in
set_option maxRecDepth 100000 in
theorem ct_J3_pollFirst {K : gK} {h : AH} {a e0 hd np : Nat} {p0 : Nat → Nat} (ha : h a = some (.inr (5, [.ref e0, .int (nI hd), .int (nI ((hd + (np + 1)) % 17))]))) (hao : gOld K a = none) (he : h e0 = some (.inl (gT K 6, 17, .inr (.inr (.inr (.inr (dqD hd (np + 1) p0))))))) (heo : gOld K e0 = none) (hh : hd < 17) (hn : np < 8) : gCt K yJ3_pollFirst w_J3_pollFirst 1 21 0 0 h [.ref a] (pR (.ref (p0 0)) (gu (gu h e0 (.inl (gT K 6, 17, .inr (.inr (.inr (.inr (dqD ((hd + 1) % 17) np (fun i => p0 (i + 1))))))))) a (.inr (5, [.ref e0, .int (nI ((hd + 1) % 17)), .int (nI (((hd + 1) % 17 + np) % 17))])))) := by
  refine g_meth pf_J3_pollFirst (nle rfl) (fun p e s m args below meth c F hnm htb => ?_)
  have F : gFix K p s m args meth c cJ3_pollFirst 4 RJ3 (some (.object "java/lang/Object")) := F
  refine g_eql (lv' := [(0, .ref a)]) rfl ?_
  refine g_aload_n F dJ3_pollFirst_0 0 rfl rfl ?_
  refine gf_J3_3_J3 (v := .ref e0) F dJ3_pollFirst_1 ha rfl ?_
  refine g_dup F dJ3_pollFirst_4 rfl ?_
  refine g_astore_n (lv' := [(1, .ref e0), (0, .ref a)]) F dJ3_pollFirst_5 rfl (by decide) rfl ?_
  refine g_aload_n F dJ3_pollFirst_6 1 rfl rfl ?_
  refine gf_J3_24_J3 (v := .int (nI hd)) F dJ3_pollFirst_7 ha rfl ?_
  refine g_dup F dJ3_pollFirst_10 rfl ?_
  refine g_istore_n (lv' := [(2, .int (nI hd)), (1, .ref e0), (0, .ref a)]) F dJ3_pollFirst_11 rfl (by decide) rfl ?_
  refine g_callS F dJ3_pollFirst_12 mi_J3_elementAt q1619 q1620 (ct_J3_elementAt he heo (by omega) (show dqD hd (np + 1) p0 hd = some (p0 0) from by have := dq_at (p := p0) hh (show np + 1 ≤ 17 by omega) (Nat.succ_pos np); rwa [show (hd + 0) % 17 = hd by omega] at this)) rfl rfl (nle rfl) (nle rfl) (nle rfl) (g_pur ?_) g_purX
  refine g_astore_n (lv' := [(3, .ref (p0 0)), (2, .int (nI hd)), (1, .ref e0), (0, .ref a)]) F dJ3_pollFirst_15 rfl (by decide) rfl ?_
  refine g_aload_n F dJ3_pollFirst_16 0 rfl rfl ?_
  refine g_ifnull F dJ3_pollFirst_17 ?_
  refine g_aload_n F dJ3_pollFirst_20 2 rfl rfl ?_
  refine g_iload_n F dJ3_pollFirst_21 1 rfl rfl ?_
  refine g_null F dJ3_pollFirst_22 ?_
  refine g_aastNN (t := 6) (i := hd) F (by decide) rfl he heo rfl rfl hh (by decide) dJ3_pollFirst_23 (fun h_8 e9 => ?_)
  have f10 := gu_t e9 ha (gneA ha he)
  have f11 := gu_a e9
  rw [show (va_up (dqD hd (np + 1) p0) hd none) = (dqD ((hd + 1) % 17) np (fun i => p0 (i + 1))) from dq_first hh (by omega)] at e9
  have f12 := gu_a e9
  refine g_aload_n F dJ3_pollFirst_24 3 rfl rfl ?_
  refine g_iload_n F dJ3_pollFirst_25 1 rfl rfl ?_
  refine g_aload_n F dJ3_pollFirst_26 2 rfl rfl ?_
  refine g_alen F (by decide) f12 dJ3_pollFirst_27 ?_
  refine g_callS F dJ3_pollFirst_28 mi_J3_inc q1622 q495 (ct_J3_inc (i := hd) (m0 := 17) (by omega) (by omega)) rfl rfl (nle rfl) (nle rfl) (nle rfl) (g_pur ?_) g_purX
  refine g_eqs (st' := [.int (nI ((hd + 1) % 17)), .ref a]) (by rw [show (((if hd + 1 < 17 then hd + 1 else 0)) : Nat) = ((hd + 1) % 17) from by split <;> omega]) ?_
  refine gp_J3_24_J3 (fs' := [.ref e0, .int (nI ((hd + 1) % 17)), .int (nI ((hd + (np + 1)) % 17))]) F dJ3_pollFirst_31 f10 hao (nle rfl) rfl (fun h_20 e21 => ?_)
  have f22 := gu_t e21 f12 (gneB f12 f10)
  have f23 := gu_a e21
  refine g_aload_n F dJ3_pollFirst_34 0 rfl rfl ?_
  exact g_aret F dJ3_pollFirst_35 (Or.inl ⟨_, rfl⟩) (Or.inr ⟨_, rfl⟩) (⟨rfl, by rw [e21, e9, show (hd + (np + 1)) % 17 = ((hd + 1) % 17 + np) % 17 from by omega]⟩)
set_option maxHeartbeats 4000000 in
set_option maxRecDepth 100000 in
theorem ct_J3_removeFirst {K : gK} {h : AH} {a e0 hd np : Nat} {p0 : Nat → Nat} (ha : h a = some (.inr (5, [.ref e0, .int (nI hd), .int (nI ((hd + (np + 1)) % 17))]))) (hao : gOld K a = none) (he : h e0 = some (.inl (gT K 6, 17, .inr (.inr (.inr (.inr (dqD hd (np + 1) p0))))))) (heo : gOld K e0 = none) (hh : hd < 17) (hn : np < 8) : gCt K yJ3_removeFirst w_J3_removeFirst 2 44 0 0 h [.ref a] (pR (.ref (p0 0)) (gu (gu h e0 (.inl (gT K 6, 17, .inr (.inr (.inr (.inr (dqD ((hd + 1) % 17) np (fun i => p0 (i + 1))))))))) a (.inr (5, [.ref e0, .int (nI ((hd + 1) % 17)), .int (nI (((hd + 1) % 17 + np) % 17))])))) := by
  refine g_meth pf_J3_removeFirst (nle rfl) (fun p e s m args below meth c F hnm htb => ?_)
  have F : gFix K p s m args meth c cJ3_removeFirst 2 RJ3 (some (.object "java/lang/Object")) := F
  refine g_eql (lv' := [(0, .ref a)]) rfl ?_
  refine g_aload_n F dJ3_removeFirst_0 0 rfl rfl ?_
  refine g_callV F dJ3_removeFirst_1 mi_J3_pollFirst q1615 q1616 q1617 gc_J3 ha (ct_J3_pollFirst ha hao he heo hh hn) rfl rfl (nle rfl) (nle rfl) (nle rfl) (g_pur ?_) g_purX
  refine g_gen (fun h_10 e11 => ?_)
  obtain ⟨h_8, e9⟩ : ∃ z, z = gu h (e0) (.inl (gT K 6, 17, .inr (.inr (.inr (.inr (dqD ((hd + 1) % 17) np (fun i => p0 (i + 1)))))))) := ⟨_, rfl⟩
  rw [← e9] at e11
  have f12 := gu_t e9 ha (gneA ha he)
  have f13 := gu_a e9
  have f14 := gu_t e11 f13 (gneB f13 f12)
  have f15 := gu_a e11
  refine g_astore_n (lv' := [(1, .ref (p0 0)), (0, .ref a)]) F dJ3_removeFirst_4 rfl (by decide) rfl ?_
  refine g_aload_n F dJ3_removeFirst_5 0 rfl rfl ?_
  refine g_ifnonnull (tgt := 17) F dJ3_removeFirst_6 (by decide) ?_
  refine g_aload_n F dJ3_removeFirst_17 0 rfl rfl ?_
  exact g_aret F dJ3_removeFirst_18 (Or.inl ⟨_, rfl⟩) (Or.inr ⟨_, rfl⟩) (⟨rfl, by rw [e11, e9]⟩)
set_option maxHeartbeats 4000000 in
set_option maxRecDepth 100000 in
theorem ct_J3_pollLast {K : gK} {h : AH} {a e0 hd np : Nat} {p0 : Nat → Nat} (ha : h a = some (.inr (5, [.ref e0, .int (nI hd), .int (nI ((hd + (np + 1)) % 17))]))) (hao : gOld K a = none) (he : h e0 = some (.inl (gT K 6, 17, .inr (.inr (.inr (.inr (dqD hd (np + 1) p0))))))) (heo : gOld K e0 = none) (hh : hd < 17) (hn : np < 8) : gCt K yJ3_pollLast w_J3_pollLast 1 21 0 0 h [.ref a] (pR (.ref (p0 np)) (gu (gu h e0 (.inl (gT K 6, 17, .inr (.inr (.inr (.inr (dqD hd np p0))))))) a (.inr (5, [.ref e0, .int (nI hd), .int (nI ((hd + np) % 17))])))) := by
  refine g_meth pf_J3_pollLast (nle rfl) (fun p e s m args below meth c F hnm htb => ?_)
  have F : gFix K p s m args meth c cJ3_pollLast 4 RJ3 (some (.object "java/lang/Object")) := F
  refine g_eql (lv' := [(0, .ref a)]) rfl ?_
  refine g_aload_n F dJ3_pollLast_0 0 rfl rfl ?_
  refine gf_J3_3_J3 (v := .ref e0) F dJ3_pollLast_1 ha rfl ?_
  refine g_dup F dJ3_pollLast_4 rfl ?_
  refine g_astore_n (lv' := [(1, .ref e0), (0, .ref a)]) F dJ3_pollLast_5 rfl (by decide) rfl ?_
  refine g_aload_n F dJ3_pollLast_6 1 rfl rfl ?_
  refine gf_J3_20_J3 (v := .int (nI ((hd + (np + 1)) % 17))) F dJ3_pollLast_7 ha rfl ?_
  refine g_aload_n F dJ3_pollLast_10 0 rfl rfl ?_
  refine g_alen F (by decide) he dJ3_pollLast_11 ?_
  refine g_callS F dJ3_pollLast_12 mi_J3_dec q2229 q2230 (ct_J3_dec (i := ((hd + (np + 1)) % 17)) (m0 := 17) (by omega) (by omega) (by omega)) rfl rfl (nle rfl) (nle rfl) (nle rfl) (g_pur ?_) g_purX
  refine g_eqs (st' := [.int (nI ((hd + np) % 17)), .ref e0]) (by rw [show (((if ((hd + (np + 1)) % 17) = 0 then 17 - 1 else ((hd + (np + 1)) % 17) - 1)) : Nat) = ((hd + np) % 17) from by split <;> omega]) ?_
  refine g_dup F dJ3_pollLast_15 rfl ?_
  refine g_istore_n (lv' := [(2, .int (nI ((hd + np) % 17))), (1, .ref e0), (0, .ref a)]) F dJ3_pollLast_16 rfl (by decide) rfl ?_
  refine g_callS F dJ3_pollLast_17 mi_J3_elementAt q1619 q1620 (ct_J3_elementAt he heo (by omega) (dq_at hh (by omega) (Nat.lt_succ_self np))) rfl rfl (nle rfl) (nle rfl) (nle rfl) (g_pur ?_) g_purX
  refine g_astore_n (lv' := [(3, .ref (p0 np)), (2, .int (nI ((hd + np) % 17))), (1, .ref e0), (0, .ref a)]) F dJ3_pollLast_20 rfl (by decide) rfl ?_
  refine g_aload_n F dJ3_pollLast_21 0 rfl rfl ?_
  refine g_ifnull F dJ3_pollLast_22 ?_
  refine g_aload_n F dJ3_pollLast_25 2 rfl rfl ?_
  refine g_aload_n F dJ3_pollLast_26 3 rfl rfl ?_
  refine g_iload_n F dJ3_pollLast_27 1 rfl rfl ?_
  refine g_dup_x1 F dJ3_pollLast_28 rfl rfl ?_
  refine gp_J3_20_J3 (fs' := [.ref e0, .int (nI hd), .int (nI ((hd + np) % 17))]) F dJ3_pollLast_29 ha hao (nle rfl) rfl (fun h_15 e16 => ?_)
  have f17 := gu_t e16 he (gneB he ha)
  have f18 := gu_a e16
  refine g_null F dJ3_pollLast_32 ?_
  refine g_aastNN (t := 6) (i := (hd + np) % 17) F (by decide) rfl f17 heo rfl rfl (by omega) (by decide) dJ3_pollLast_33 (fun h_19 e20 => ?_)
  have f21 := gu_t e20 f18 (gneA f18 f17)
  have f22 := gu_a e20
  rw [show (va_up (dqD hd (np + 1) p0) ((hd + np) % 17) none) = (dqD hd np p0) from dq_last hh (by omega)] at e20
  have f23 := gu_a e20
  refine g_aload_n F dJ3_pollLast_34 0 rfl rfl ?_
  exact g_aret F dJ3_pollLast_35 (Or.inl ⟨_, rfl⟩) (Or.inr ⟨_, rfl⟩) (⟨rfl, by rw [e20, e16, gu_comm (gneA ha he)]⟩)
set_option maxHeartbeats 4000000 in
set_option maxRecDepth 100000 in
theorem ct_J3_removeLast {K : gK} {h : AH} {a e0 hd np : Nat} {p0 : Nat → Nat} (ha : h a = some (.inr (5, [.ref e0, .int (nI hd), .int (nI ((hd + (np + 1)) % 17))]))) (hao : gOld K a = none) (he : h e0 = some (.inl (gT K 6, 17, .inr (.inr (.inr (.inr (dqD hd (np + 1) p0))))))) (heo : gOld K e0 = none) (hh : hd < 17) (hn : np < 8) : gCt K yJ3_removeLast w_J3_removeLast 2 44 0 0 h [.ref a] (pR (.ref (p0 np)) (gu (gu h e0 (.inl (gT K 6, 17, .inr (.inr (.inr (.inr (dqD hd np p0))))))) a (.inr (5, [.ref e0, .int (nI hd), .int (nI ((hd + np) % 17))])))) := by
  refine g_meth pf_J3_removeLast (nle rfl) (fun p e s m args below meth c F hnm htb => ?_)
  have F : gFix K p s m args meth c cJ3_removeLast 2 RJ3 (some (.object "java/lang/Object")) := F
  refine g_eql (lv' := [(0, .ref a)]) rfl ?_
  refine g_aload_n F dJ3_removeLast_0 0 rfl rfl ?_
  refine g_callV F dJ3_removeLast_1 mi_J3_pollLast q2225 q2226 q2227 gc_J3 ha (ct_J3_pollLast ha hao he heo hh hn) rfl rfl (nle rfl) (nle rfl) (nle rfl) (g_pur ?_) g_purX
  refine g_gen (fun h_10 e11 => ?_)
  obtain ⟨h_8, e9⟩ : ∃ z, z = gu h (e0) (.inl (gT K 6, 17, .inr (.inr (.inr (.inr (dqD hd np p0)))))) := ⟨_, rfl⟩
  rw [← e9] at e11
  have f12 := gu_t e9 ha (gneA ha he)
  have f13 := gu_a e9
  have f14 := gu_t e11 f13 (gneB f13 f12)
  have f15 := gu_a e11
  refine g_astore_n (lv' := [(1, .ref (p0 np)), (0, .ref a)]) F dJ3_removeLast_4 rfl (by decide) rfl ?_
  refine g_aload_n F dJ3_removeLast_5 0 rfl rfl ?_
  refine g_ifnonnull (tgt := 17) F dJ3_removeLast_6 (by decide) ?_
  refine g_aload_n F dJ3_removeLast_17 0 rfl rfl ?_
  exact g_aret F dJ3_removeLast_18 (Or.inl ⟨_, rfl⟩) (Or.inr ⟨_, rfl⟩) (⟨rfl, by rw [e11, e9]⟩)
/-- places lo .. hi emptied -/
def dqN (D : Nat → Option Nat) (lo hi : Nat) : Nat → Option Nat := fun i => if lo ≤ i ∧ i < hi then none else D i
theorem dqN_0 {D : Nat → Option Nat} {lo : Nat} : dqN D lo lo = D := by
  funext i
  unfold dqN
  rw [if_neg (by omega)]
theorem dqN_s {D : Nat → Option Nat} {lo k : Nat} (h : lo ≤ k) : va_up (dqN D lo k) k none = dqN D lo (k + 1) := by
  funext i
  unfold dqN
  by_cases q : i = k
  · subst q; simp only [va_up, if_true]; rw [if_pos ⟨h, by omega⟩]
  · have e : va_up (fun i => if lo ≤ i ∧ i < k then none else D i) k none i = if lo ≤ i ∧ i < k then none else D i := by simp [va_up, q]
    rw [e]
    by_cases r : lo ≤ i ∧ i < k
    · rw [if_pos r, if_pos ⟨r.1, by omega⟩]
    · rw [if_neg r, if_neg (by omega)]
theorem dqN_all {hd np : Nat} {p : Nat → Nat} (h : hd + np < 17) : dqN (dqD hd np p) hd (hd + np) = fun _ => none := by
  funext i
  unfold dqN dqD
  by_cases q : hd ≤ i ∧ i < hd + np
  · rw [if_pos q]
  · rw [if_neg q, if_neg (by omega)]
theorem dqN_two {hd np : Nat} {p : Nat → Nat} (hh : hd < 17) (hn : np ≤ 8) (h : 17 ≤ hd + np) : dqN (dqN (dqD hd np p) hd 17) 0 (hd + np - 17) = fun _ => none := by
  funext i
  unfold dqN dqD
  by_cases q : 0 ≤ i ∧ i < hd + np - 17
  · rw [if_pos q]
  · rw [if_neg q]
    by_cases r : hd ≤ i ∧ i < 17
    · rw [if_pos r]
    · rw [if_neg r, if_neg (by omega)]
set_option maxHeartbeats 4000000 in
set_option maxRecDepth 100000 in
theorem ct_J3_circularClear_a {K : gK} {h : AH} {e0 lo hi : Nat} {D : Nat → Option Nat} (he : h e0 = some (.inl (gT K 6, 17, .inr (.inr (.inr (.inr D)))))) (heo : gOld K e0 = none) (hlo : lo < 17) (hhi : hi < 17) (hle : lo ≤ hi) : gCt K yJ3_circularClear w_J3_circularClear 0 0 0 0 h [.ref e0, .int (nI lo), .int (nI hi)] (pV (gu h e0 (.inl (gT K 6, 17, .inr (.inr (.inr (.inr (dqN D lo hi)))))))) := by
  refine g_meth pf_J3_circularClear (nle rfl) (fun p e s m args below meth c F hnm htb => ?_)
  have F : gFix K p s m args meth c cJ3_circularClear 4 RJ3 none := F
  refine g_eql (lv' := [(0, .ref e0), (1, .int (nI lo)), (2, .int (nI hi))]) rfl ?_
  refine g_iload_n F dJ3_circularClear_0 1 rfl rfl ?_
  refine g_iload_n F dJ3_circularClear_1 2 rfl rfl ?_
  refine g_icmp_gt (tgt := 9) F dJ3_circularClear_2 (by decide) (fun c1 => absurd c1 ((fun z => absurd (nI_le hle (by omega)) (Int32.not_le.mpr z)))) (fun c1 => ?_)
  refine g_iload_n F dJ3_circularClear_5 2 rfl rfl ?_
  refine g_goto (tgt := 11) F dJ3_circularClear_6 (by decide) ?_
  refine g_istore_n (lv' := [(3, .int (nI hi)), (0, .ref e0), (1, .int (nI lo)), (2, .int (nI hi))]) F dJ3_circularClear_11 rfl (by decide) rfl ?_
  have lpA : ∀ k, k ≤ hi - lo → G K p e s m args below meth c (gRm 0 0 0 0) 4 (pV (gu h e0 (.inl (gT K 6, 17, .inr (.inr (.inr (.inr (dqN D lo hi)))))))) (gu h e0 (.inl (gT K 6, 17, .inr (.inr (.inr (.inr (dqN (D) lo (lo + k)))))))) (0) (0) 12 [(0, .ref e0), (1, .int (nI (lo + k))), (2, .int (nI hi)), (3, .int (nI hi))] [] := by
    refine gloop (hi - lo) (fun k hk ih => ?_)
    refine g_iload_n F dJ3_circularClear_12 1 rfl rfl ?_
    refine g_iload_n F dJ3_circularClear_13 3 rfl rfl ?_
    refine g_icmp_ge (tgt := 27) F dJ3_circularClear_14 (by decide) (fun c2 => ?_) (fun c2 => ?_)
    · have hkn : hi - lo = k := by have := (nI_leI (by omega) (by omega)).mp c2; omega
      subst hkn
      refine g_iload_n F dJ3_circularClear_27 3 rfl rfl ?_
      refine g_iload_n F dJ3_circularClear_28 2 rfl rfl ?_
      refine g_icmp_ne (tgt := 35) F dJ3_circularClear_29 (by decide) (fun c3 => absurd c3 ((fun z => z rfl))) (fun c3 => ?_)
      refine g_goto (tgt := 42) F dJ3_circularClear_32 (by decide) ?_
      exact g_vret F dJ3_circularClear_42 (⟨rfl, by rw [show lo + (hi - lo) = hi by omega]⟩)
    · have hlt : k < hi - lo := by have := Nat.not_le.mp (fun z => c2 (nI_le z (by omega))); omega
      refine g_aload_n F dJ3_circularClear_17 0 rfl rfl ?_
      refine g_iload_n F dJ3_circularClear_18 1 rfl rfl ?_
      refine g_null F dJ3_circularClear_19 ?_
      refine g_aastNN (t := 6) (i := lo + k) F (by decide) rfl (gu_a rfl) heo rfl rfl (by omega) (by decide) dJ3_circularClear_20 (fun h_4 e5 => ?_)
      have f6 := gu_a e5
      refine g_iinc (lv' := [(1, .int ((nI (lo + k)) + 1)), (0, .ref e0), (2, .int (nI hi)), (3, .int (nI hi))]) (v := (nI (lo + k)) + 1) F dJ3_circularClear_21 (k := 1) rfl rfl (by decide) rfl ?_
      refine g_goto (tgt := 12) F dJ3_circularClear_24 (by decide) ?_
      refine g_eqh (h' := (gu h e0 (.inl (gT K 6, 17, .inr (.inr (.inr (.inr (dqN (D) lo (lo + (k + 1)))))))))) (by rw [e5, gu_gu, dqN_s (by omega)]; rfl) ?_
      refine g_lv (lv' := [(0, .ref e0), (1, .int ((nI (lo + k)) + 1)), (2, .int (nI hi)), (3, .int (nI hi))]) [1, 0, 2, 3] rfl ?_
      exact g_eql (lv' := [(0, .ref e0), (1, .int (nI (lo + (k + 1)))), (2, .int (nI hi)), (3, .int (nI hi))]) (by simp only [nI_1, Nat.add_assoc]) (ih hlt )
  refine g_lv (lv' := [(0, .ref e0), (1, .int (nI lo)), (2, .int (nI hi)), (3, .int (nI hi))]) [1, 2, 3, 0] rfl ?_
  refine g_eqh (h' := (gu h e0 (.inl (gT K 6, 17, .inr (.inr (.inr (.inr (dqN (D) lo (lo + 0))))))))) (by rw [Nat.add_zero, dqN_0, gu_id he]) ?_
  exact lpA 0 (Nat.zero_le _)
set_option maxHeartbeats 4000000 in
set_option maxRecDepth 100000 in
theorem ct_J3_circularClear_b {K : gK} {h : AH} {e0 lo hi : Nat} {D : Nat → Option Nat} (he : h e0 = some (.inl (gT K 6, 17, .inr (.inr (.inr (.inr D)))))) (heo : gOld K e0 = none) (hlo : lo < 17) (hhi : hi < 17) (hle : hi < lo) : gCt K yJ3_circularClear w_J3_circularClear 0 0 0 0 h [.ref e0, .int (nI lo), .int (nI hi)] (pV (gu h e0 (.inl (gT K 6, 17, .inr (.inr (.inr (.inr (dqN (dqN D lo 17) 0 hi)))))))) := by
  refine g_meth pf_J3_circularClear (nle rfl) (fun p e s m args below meth c F hnm htb => ?_)
  have F : gFix K p s m args meth c cJ3_circularClear 4 RJ3 none := F
  refine g_eql (lv' := [(0, .ref e0), (1, .int (nI lo)), (2, .int (nI hi))]) rfl ?_
  refine g_iload_n F dJ3_circularClear_0 1 rfl rfl ?_
  refine g_iload_n F dJ3_circularClear_1 2 rfl rfl ?_
  refine g_icmp_gt (tgt := 9) F dJ3_circularClear_2 (by decide) (fun c1 => ?_) (fun c1 => absurd c1 ((fun z => z (nI_lt hle (by omega)))))
  refine g_aload_n F dJ3_circularClear_9 0 rfl rfl ?_
  refine g_alen F (by decide) he dJ3_circularClear_10 ?_
  refine g_eqs (st' := [.int (nI 17)]) (rfl) ?_
  refine g_istore_n (lv' := [(3, .int (nI 17)), (0, .ref e0), (1, .int (nI lo)), (2, .int (nI hi))]) F dJ3_circularClear_11 rfl (by decide) rfl ?_
  have lpB : ∀ k, k ≤ hi → G K p e s m args below meth c (gRm 0 0 0 0) 4 (pV (gu h e0 (.inl (gT K 6, 17, .inr (.inr (.inr (.inr (dqN (dqN D lo 17) 0 hi)))))))) (gu h e0 (.inl (gT K 6, 17, .inr (.inr (.inr (.inr (dqN (dqN D lo 17) 0 (0 + k)))))))) (0) (0) 12 [(0, .ref e0), (1, .int (nI (0 + k))), (2, .int (nI hi)), (3, .int (nI hi))] [] := by
    refine gloop hi (fun k hk ih => ?_)
    refine g_iload_n F dJ3_circularClear_12 1 rfl rfl ?_
    refine g_iload_n F dJ3_circularClear_13 3 rfl rfl ?_
    refine g_icmp_ge (tgt := 27) F dJ3_circularClear_14 (by decide) (fun c2 => ?_) (fun c2 => ?_)
    · have hkn : hi = k := by have := (nI_leI (by omega) (by omega)).mp c2; omega
      subst hkn
      refine g_iload_n F dJ3_circularClear_27 3 rfl rfl ?_
      refine g_iload_n F dJ3_circularClear_28 2 rfl rfl ?_
      refine g_icmp_ne (tgt := 35) F dJ3_circularClear_29 (by decide) (fun c3 => absurd c3 ((fun z => z rfl))) (fun c3 => ?_)
      refine g_goto (tgt := 42) F dJ3_circularClear_32 (by decide) ?_
      exact g_vret F dJ3_circularClear_42 (⟨rfl, by rw [Nat.zero_add]⟩)
    · have hlt : k < hi := by have := Nat.not_le.mp (fun z => c2 (nI_le z (by omega))); omega
      refine g_aload_n F dJ3_circularClear_17 0 rfl rfl ?_
      refine g_iload_n F dJ3_circularClear_18 1 rfl rfl ?_
      refine g_null F dJ3_circularClear_19 ?_
      refine g_aastNN (t := 6) (i := 0 + k) F (by decide) rfl (gu_a rfl) heo rfl rfl (by omega) (by decide) dJ3_circularClear_20 (fun h_4 e5 => ?_)
      have f6 := gu_a e5
      refine g_iinc (lv' := [(1, .int ((nI (0 + k)) + 1)), (0, .ref e0), (2, .int (nI hi)), (3, .int (nI hi))]) (v := (nI (0 + k)) + 1) F dJ3_circularClear_21 (k := 1) rfl rfl (by decide) rfl ?_
      refine g_goto (tgt := 12) F dJ3_circularClear_24 (by decide) ?_
      refine g_eqh (h' := (gu h e0 (.inl (gT K 6, 17, .inr (.inr (.inr (.inr (dqN (dqN D lo 17) 0 (0 + (k + 1)))))))))) (by rw [e5, gu_gu, dqN_s (by omega)]; rfl) ?_
      refine g_lv (lv' := [(0, .ref e0), (1, .int ((nI (0 + k)) + 1)), (2, .int (nI hi)), (3, .int (nI hi))]) [1, 0, 2, 3] rfl ?_
      exact g_eql (lv' := [(0, .ref e0), (1, .int (nI (0 + (k + 1)))), (2, .int (nI hi)), (3, .int (nI hi))]) (by simp only [nI_1, Nat.add_assoc]) (ih hlt )
  have lpA : ∀ k, k ≤ 17 - lo → G K p e s m args below meth c (gRm 0 0 0 0) 4 (pV (gu h e0 (.inl (gT K 6, 17, .inr (.inr (.inr (.inr (dqN (dqN D lo 17) 0 hi)))))))) (gu h e0 (.inl (gT K 6, 17, .inr (.inr (.inr (.inr (dqN (D) lo (lo + k)))))))) (0) (0) 12 [(0, .ref e0), (1, .int (nI (lo + k))), (2, .int (nI hi)), (3, .int (nI 17))] [] := by
    refine gloop (17 - lo) (fun k hk ih => ?_)
    refine g_iload_n F dJ3_circularClear_12 1 rfl rfl ?_
    refine g_iload_n F dJ3_circularClear_13 3 rfl rfl ?_
    refine g_icmp_ge (tgt := 27) F dJ3_circularClear_14 (by decide) (fun c7 => ?_) (fun c7 => ?_)
    · have hkn : 17 - lo = k := by have := (nI_leI (by omega) (by omega)).mp c7; omega
      subst hkn
      refine g_iload_n F dJ3_circularClear_27 3 rfl rfl ?_
      refine g_iload_n F dJ3_circularClear_28 2 rfl rfl ?_
      refine g_icmp_ne (tgt := 35) F dJ3_circularClear_29 (by decide) (fun c8 => ?_) (fun c8 => absurd c8 ((fun z => by have := (nI_eq (by omega) (by omega)).mp z; omega)))
      refine g_iconst (v := 0) F dJ3_circularClear_35 rfl ?_
      refine g_istore_n (lv' := [(1, .int 0), (0, .ref e0), (2, .int (nI hi)), (3, .int (nI 17))]) F dJ3_circularClear_36 rfl (by decide) rfl ?_
      refine g_iload_n F dJ3_circularClear_37 2 rfl rfl ?_
      refine g_istore_n (lv' := [(3, .int (nI hi)), (1, .int 0), (0, .ref e0), (2, .int (nI hi))]) F dJ3_circularClear_38 rfl (by decide) rfl ?_
      refine g_lv (lv' := [(0, .ref e0), (1, .int 0), (2, .int (nI hi)), (3, .int (nI hi))]) [2, 1, 3, 0] rfl ?_
      refine g_goto (tgt := 12) F dJ3_circularClear_39 (by decide) ?_
      refine g_eqh (h' := (gu h e0 (.inl (gT K 6, 17, .inr (.inr (.inr (.inr (dqN (dqN D lo 17) 0 (0 + 0))))))))) (by rw [show lo + (17 - lo) = 17 by omega]; show _ = gu h e0 (.inl (gT K 6, 17, .inr (.inr (.inr (.inr (dqN (dqN D lo 17) 0 0)))))); rw [dqN_0]) ?_
      exact lpB 0 (Nat.zero_le _)
    · have hlt : k < 17 - lo := by have := Nat.not_le.mp (fun z => c7 (nI_le z (by omega))); omega
      refine g_aload_n F dJ3_circularClear_17 0 rfl rfl ?_
      refine g_iload_n F dJ3_circularClear_18 1 rfl rfl ?_
      refine g_null F dJ3_circularClear_19 ?_
      refine g_aastNN (t := 6) (i := lo + k) F (by decide) rfl (gu_a rfl) heo rfl rfl (by omega) (by decide) dJ3_circularClear_20 (fun h_9 e10 => ?_)
      have f11 := gu_a e10
      refine g_iinc (lv' := [(1, .int ((nI (lo + k)) + 1)), (0, .ref e0), (2, .int (nI hi)), (3, .int (nI 17))]) (v := (nI (lo + k)) + 1) F dJ3_circularClear_21 (k := 1) rfl rfl (by decide) rfl ?_
      refine g_goto (tgt := 12) F dJ3_circularClear_24 (by decide) ?_
      refine g_eqh (h' := (gu h e0 (.inl (gT K 6, 17, .inr (.inr (.inr (.inr (dqN (D) lo (lo + (k + 1)))))))))) (by rw [e10, gu_gu, dqN_s (by omega)]; rfl) ?_
      refine g_lv (lv' := [(0, .ref e0), (1, .int ((nI (lo + k)) + 1)), (2, .int (nI hi)), (3, .int (nI 17))]) [1, 0, 2, 3] rfl ?_
      exact g_eql (lv' := [(0, .ref e0), (1, .int (nI (lo + (k + 1)))), (2, .int (nI hi)), (3, .int (nI 17))]) (by simp only [nI_1, Nat.add_assoc]) (ih hlt )
  refine g_lv (lv' := [(0, .ref e0), (1, .int (nI lo)), (2, .int (nI hi)), (3, .int (nI 17))]) [1, 2, 3, 0] rfl ?_
  refine g_eqh (h' := (gu h e0 (.inl (gT K 6, 17, .inr (.inr (.inr (.inr (dqN (D) lo (lo + 0))))))))) (by rw [Nat.add_zero, dqN_0, gu_id he]) ?_
  exact lpA 0 (Nat.zero_le _)
set_option maxHeartbeats 4000000 in
set_option maxRecDepth 100000 in
theorem ct_J3_clear_a {K : gK} {h : AH} {a e0 hd np : Nat} {p0 : Nat → Nat} (ha : h a = some (.inr (5, [.ref e0, .int (nI hd), .int (nI ((hd + np) % 17))]))) (hao : gOld K a = none) (he : h e0 = some (.inl (gT K 6, 17, .inr (.inr (.inr (.inr (dqD hd np p0))))))) (heo : gOld K e0 = none) (hh : hd < 17) (hn : np ≤ 8) (hc : hd + np < 17) : gCt K yJ3_clear w_J3_clear 1 23 0 0 h [.ref a] (pV (gu (gu h e0 (.inl (gT K 6, 17, .inr (.inr (.inr (.inr (fun _ => none))))))) a (.inr (5, [.ref e0, .int (nI 0), .int (nI 0)])))) := by
  refine g_meth pf_J3_clear (nle rfl) (fun p e s m args below meth c F hnm htb => ?_)
  have F : gFix K p s m args meth c cJ3_clear 1 RJ3 none := F
  refine g_eql (lv' := [(0, .ref a)]) rfl ?_
  refine g_aload_n F dJ3_clear_0 0 rfl rfl ?_
  refine gf_J3_3_J3 (v := .ref e0) F dJ3_clear_1 ha rfl ?_
  refine g_aload_n F dJ3_clear_4 0 rfl rfl ?_
  refine gf_J3_24_J3 (v := .int (nI hd)) F dJ3_clear_5 ha rfl ?_
  refine g_aload_n F dJ3_clear_8 0 rfl rfl ?_
  refine gf_J3_20_J3 (v := .int (nI ((hd + np) % 17))) F dJ3_clear_9 ha rfl ?_
  refine g_callS F dJ3_clear_12 mi_J3_circularClear q318 q319 (ct_J3_circularClear_a he heo hh (show (hd + np) % 17 < 17 by omega) (by omega)) rfl rfl (nle rfl) (nle rfl) (nle rfl) (g_purv ?_) g_purvX
  refine g_gen (fun h_8 e9 => ?_)
  have f10 := gu_t e9 ha (gneA ha he)
  have f11 := gu_a e9
  rw [show (dqN (dqD hd np p0) hd ((hd + np) % 17)) = (fun _ => none) from by rw [show (hd + np) % 17 = hd + np by omega]; exact dqN_all (by omega)] at e9
  have f12 := gu_a e9
  refine g_aload_n F dJ3_clear_15 0 rfl rfl ?_
  refine g_aload_n F dJ3_clear_16 0 rfl rfl ?_
  refine g_iconst (v := 0) F dJ3_clear_17 rfl ?_
  refine g_dup_x1 F dJ3_clear_18 rfl rfl ?_
  refine gp_J3_20_J3 (fs' := [.ref e0, .int (nI hd), .int 0]) F dJ3_clear_19 f10 hao (nle rfl) rfl (fun h_13 e14 => ?_)
  have f15 := gu_t e14 f12 (gneB f12 f10)
  have f16 := gu_a e14
  refine gp_J3_24_J3 (fs' := [.ref e0, .int 0, .int 0]) F dJ3_clear_22 f16 hao (nle rfl) rfl (fun h_17 e18 => ?_)
  have f19 := gu_t e18 f15 (gneB f15 f16)
  have f20 := gu_a e18
  exact g_vret F dJ3_clear_25 (⟨rfl, by rw [e18, e14, gu_gu, e9]; rfl⟩)
set_option maxHeartbeats 4000000 in
set_option maxRecDepth 100000 in
theorem ct_J3_clear_b {K : gK} {h : AH} {a e0 hd np : Nat} {p0 : Nat → Nat} (ha : h a = some (.inr (5, [.ref e0, .int (nI hd), .int (nI ((hd + np) % 17))]))) (hao : gOld K a = none) (he : h e0 = some (.inl (gT K 6, 17, .inr (.inr (.inr (.inr (dqD hd np p0))))))) (heo : gOld K e0 = none) (hh : hd < 17) (hn : np ≤ 8) (hc : 17 ≤ hd + np) : gCt K yJ3_clear w_J3_clear 1 23 0 0 h [.ref a] (pV (gu (gu h e0 (.inl (gT K 6, 17, .inr (.inr (.inr (.inr (fun _ => none))))))) a (.inr (5, [.ref e0, .int (nI 0), .int (nI 0)])))) := by
  refine g_meth pf_J3_clear (nle rfl) (fun p e s m args below meth c F hnm htb => ?_)
  have F : gFix K p s m args meth c cJ3_clear 1 RJ3 none := F
  refine g_eql (lv' := [(0, .ref a)]) rfl ?_
  refine g_aload_n F dJ3_clear_0 0 rfl rfl ?_
  refine gf_J3_3_J3 (v := .ref e0) F dJ3_clear_1 ha rfl ?_
  refine g_aload_n F dJ3_clear_4 0 rfl rfl ?_
  refine gf_J3_24_J3 (v := .int (nI hd)) F dJ3_clear_5 ha rfl ?_
  refine g_aload_n F dJ3_clear_8 0 rfl rfl ?_
  refine gf_J3_20_J3 (v := .int (nI ((hd + np) % 17))) F dJ3_clear_9 ha rfl ?_
  refine g_callS F dJ3_clear_12 mi_J3_circularClear q318 q319 (ct_J3_circularClear_b he heo hh (show (hd + np) % 17 < 17 by omega) (by omega)) rfl rfl (nle rfl) (nle rfl) (nle rfl) (g_purv ?_) g_purvX
  refine g_gen (fun h_8 e9 => ?_)
  have f10 := gu_t e9 ha (gneA ha he)
  have f11 := gu_a e9
  rw [show (dqN (dqN (dqD hd np p0) hd 17) 0 ((hd + np) % 17)) = (fun _ => none) from by rw [show (hd + np) % 17 = hd + np - 17 by omega]; exact dqN_two hh hn (by omega)] at e9
  have f12 := gu_a e9
  refine g_aload_n F dJ3_clear_15 0 rfl rfl ?_
  refine g_aload_n F dJ3_clear_16 0 rfl rfl ?_
  refine g_iconst (v := 0) F dJ3_clear_17 rfl ?_
  refine g_dup_x1 F dJ3_clear_18 rfl rfl ?_
  refine gp_J3_20_J3 (fs' := [.ref e0, .int (nI hd), .int 0]) F dJ3_clear_19 f10 hao (nle rfl) rfl (fun h_13 e14 => ?_)
  have f15 := gu_t e14 f12 (gneB f12 f10)
  have f16 := gu_a e14
  refine gp_J3_24_J3 (fs' := [.ref e0, .int 0, .int 0]) F dJ3_clear_22 f16 hao (nle rfl) rfl (fun h_17 e18 => ?_)
  have f19 := gu_t e18 f15 (gneB f15 f16)
  have f20 := gu_a e18
  exact g_vret F dJ3_clear_25 (⟨rfl, by rw [e18, e14, gu_gu, e9]; rfl⟩)
theorem ct_J3_clearA {K : gK} {h : AH} {a e0 hd np : Nat} {p0 : Nat → Nat} (ha : h a = some (.inr (5, [.ref e0, .int (nI hd), .int (nI ((hd + np) % 17))]))) (hao : gOld K a = none) (he : h e0 = some (.inl (gT K 6, 17, .inr (.inr (.inr (.inr (dqD hd np p0))))))) (heo : gOld K e0 = none) (hh : hd < 17) (hn : np ≤ 8) : gCt K yJ3_clear w_J3_clear 1 23 0 0 h [.ref a] (pV (gu (gu h e0 (.inl (gT K 6, 17, .inr (.inr (.inr (.inr (fun _ => none))))))) a (.inr (5, [.ref e0, .int (nI 0), .int (nI 0)])))) := by
  rcases Nat.lt_or_ge (hd + np) 17 with q | q
  · exact ct_J3_clear_a ha hao he heo hh hn q
  · exact ct_J3_clear_b ha hao he heo hh hn q
