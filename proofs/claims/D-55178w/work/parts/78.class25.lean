/-! ===== StringBuilder (written by tools/class25.py) ===== -/
set_option maxHeartbeats 4000000 in
set_option maxRecDepth 100000 in
theorem ct_J3_init {K : gK} {h : AH} {a : Nat} (ha : h a = some (.inr (5, [.null, .int 0, .int 0]))) (hao : gOld K a = none) : gCt K yJ3_init w_J3_init 2 32 1 17 h [.ref a] (pO (nwV K h (.inl (gT K 6, 17, .inr (.inr (.inr (.inr (fun _ => none)))))) a (fun q => .inr (5, [.ref q, .int 0, .int 0])))) := by
  refine g_meth pf_J3_init (nle rfl) (fun p e s m args below meth c F hnm htb => ?_)
  have F : gFix K p s m args meth c cJ3_init 1 RJ3 none := F
  refine g_eql (lv' := [(0, .ref a)]) rfl ?_
  refine g_aload_n F dJ3_init_0 0 rfl rfl ?_
  refine g_callI F dJ3_init_1 mi_J0_init rfl q229 q147 ct_J0_init rfl rfl (nle rfl) (nle rfl) (nle rfl) (g_purv ?_) g_purvX
  refine g_aload_n F dJ3_init_4 0 rfl rfl ?_
  refine g_bipush (v := 17) F dJ3_init_5 rfl ?_
  refine g_newq (t := 6) (N := 17) (b := 0) (bs := 0) F q230 F.hN.2.2.1 (by decide) rfl dJ3_init_7 (by decide) rfl (by decide) (fun q8 h_9 hn_e10 ho_e10 e10 => ?_)
  have d11 := gnew hn_e10 ha
  have f12 := gu_t e10 ha d11
  have f13 := gu_a e10
  refine gp_J3_3_J3 (fs' := [.ref q8, .int 0, .int 0]) F dJ3_init_10 (Or.inr ⟨_, rfl⟩) f12 hao (nle rfl) rfl (fun h_14 e15 => ?_)
  have f16 := gu_t e15 f13 (Ne.symm d11)
  have f17 := gu_a e15
  exact g_vret F dJ3_init_13 (⟨none, rfl, rfl, _, hn_e10, ho_e10, by rw [e15, e10]⟩)
set_option maxHeartbeats 4000000 in
set_option maxRecDepth 100000 in
theorem ct_J4_init {K : gK} {h : AH} {a : Nat} (ha : h a = some (.inr (6, [.null, .int 0, .int 0, .int 0]))) (hao : gOld K a = none) : gCt K yJ4_init w_J4_init 1 12 1 16 h [.ref a, .int 16] (pO (nwV K h (.inl (gT K 1, 16, .inl (fun _ => 0))) a (fun q => .inr (6, [.ref q, .int 0, .int 0, .int 0])))) := by
  refine g_meth pf_J4_init (nle rfl) (fun p e s m args below meth c F hnm htb => ?_)
  have F : gFix K p s m args meth c cJ4_init 2 RJ4 none := F
  refine g_eql (lv' := [(0, .ref a), (1, .int 16)]) rfl ?_
  refine g_aload_n F dJ4_init_0 0 rfl rfl ?_
  refine g_objInit F q252 q124 q125 dJ4_init_1 (nle rfl) (nle rfl) ?_
  refine g_gets F (gZs_0 K) q253 (fun _ h9 => h9) dJ4_init_4 ?_
  refine g_if_eq (tgt := 25) F dJ4_init_7 (by decide) (fun c1 => absurd c1 (by decide)) (fun c1 => ?_)
  refine g_aload_n F dJ4_init_10 0 rfl rfl ?_
  refine g_iload_n F dJ4_init_11 1 rfl rfl ?_
  refine g_newa (t := 1) (atype := .byte) (N := 16) (d := .inl (fun _ => 0)) (b := 0) (bs := 0) F q275 (by decide) rfl (fun _ => rfl) dJ4_init_12 (by decide) rfl (by decide) (fun q2 h_3 hn_e4 ho_e4 e4 => ?_)
  have d5 := gnew hn_e4 ha
  have f6 := gu_t e4 ha d5
  have f7 := gu_a e4
  refine gp_J4_15_J5 (fs' := [.ref q2, .int 0, .int 0, .int 0]) F dJ4_init_14 (Or.inr ⟨_, rfl⟩) f6 hao (nle rfl) rfl (fun h_8 e9 => ?_)
  have f10 := gu_t e9 f7 (Ne.symm d5)
  have f11 := gu_a e9
  refine g_aload_n F dJ4_init_17 0 rfl rfl ?_
  refine g_iconst (v := 0) F dJ4_init_18 rfl ?_
  refine gp_J4_22_J5 (fs' := [.ref q2, .int 0, .int 0, .int 0]) F dJ4_init_19 (by first | rfl | decide | exact mIn_n | (split <;> rfl)) (by first | rfl | decide | (split <;> rfl)) f11 hao (nle rfl) rfl (fun h_12 e13 => ?_)
  have f14 := gu_t e13 f10 (Ne.symm d5)
  have f15 := gu_a e13
  refine g_goto (tgt := 38) F dJ4_init_22 (by decide) ?_
  exact g_vret F dJ4_init_38 (⟨none, rfl, rfl, _, hn_e4, ho_e4, by rw [e13, e9, gu_gu, e4]⟩)
set_option maxHeartbeats 4000000 in
set_option maxRecDepth 100000 in
theorem ct_J5_init {K : gK} {h : AH} {a : Nat} (ha : h a = some (.inr (6, [.null, .int 0, .int 0, .int 0]))) (hao : gOld K a = none) : gCt K yJ5_init w_J5_init 2 33 1 16 h [.ref a] (pO (nwV K h (.inl (gT K 1, 16, .inl (fun _ => 0))) a (fun q => .inr (6, [.ref q, .int 0, .int 0, .int 0])))) := by
  refine g_meth pf_J5_init (nle rfl) (fun p e s m args below meth c F hnm htb => ?_)
  have F : gFix K p s m args meth c cJ5_init 1 RJ5 none := F
  refine g_eql (lv' := [(0, .ref a)]) rfl ?_
  refine g_aload_n F dJ5_init_0 0 rfl rfl ?_
  refine g_bipush (v := 16) F dJ5_init_1 rfl ?_
  refine g_callI (b := 0) (bs := 0) F dJ5_init_3 mi_J4_init rfl q249 q250 (ct_J4_init ha hao) rfl rfl (nle rfl) (nle rfl) (nle rfl) (g_pO (fun v1 h_2 p3 => ?_)) g_pOX
  obtain ⟨rfl, q8, hn_e10, ho_e10, e9⟩ := p3
  obtain ⟨h_11, e10⟩ : ∃ h9, h9 = gu h q8 (.inl (gT K 1, 16, .inl (fun _ => 0))) := ⟨_, rfl⟩
  rw [← e10] at e9
  have d12 := gnew hn_e10 ha
  have f13 := gu_t e10 ha d12
  have f14 := gu_a e10
  have f15 := gu_t e9 f14 (Ne.symm d12)
  have f16 := gu_a e9
  refine g_eqs (st' := []) rfl ?_
  exact g_vret F dJ5_init_6 (⟨none, rfl, rfl, _, hn_e10, ho_e10, by rw [e9, e10]⟩)
set_option maxHeartbeats 4000000 in
set_option maxRecDepth 100000 in
theorem ct_J4_newCapacity {K : gK} {h : AH} {a d C n m0 : Nat} {t : Nat → Int32} (hs : sbX K h a d C t n) (hm : C < m0) (hm2 : m0 ≤ 1000) : gCt K yJ4_newCapacity w_J4_newCapacity 2 44 0 0 h [.ref a, .int (nI m0)] (pR (.int (nI (C + max (m0 - C) (C + 2)))) h) := by
  refine g_meth pf_J4_newCapacity (nle rfl) (fun p e s m args below meth c F hnm htb => ?_)
  have F : gFix K p s m args meth c cJ4_newCapacity 6 RJ4 (some .int) := F
  refine g_eql (lv' := [(0, .ref a), (1, .int (nI m0))]) rfl ?_
  have hs9 := hs
  obtain ⟨ha, hao, hdo, hd, hnC, hC2, hcc⟩ := hs
  refine g_aload_n F dJ4_newCapacity_0 0 rfl rfl ?_
  refine gf_J4_15_J5 (v := .ref d) F dJ4_newCapacity_1 ha rfl ?_
  refine g_alen F (by decide) hd dJ4_newCapacity_4 ?_
  refine g_istore_n (lv' := [(2, .int (nI C)), (0, .ref a), (1, .int (nI m0))]) F dJ4_newCapacity_5 rfl (by decide) rfl ?_
  refine g_iload_n F dJ4_newCapacity_6 2 rfl rfl ?_
  refine g_aload_n F dJ4_newCapacity_7 1 rfl rfl ?_
  refine gf_J4_22_J5 (v := .int 0) F dJ4_newCapacity_8 ha rfl ?_
  refine g_ishl F dJ4_newCapacity_11 ?_
  refine g_eqs (st' := [.int (nI m0)]) (by rw [sShl]) ?_
  refine g_istore_n (lv' := [(3, .int (nI m0)), (2, .int (nI C)), (0, .ref a), (1, .int (nI m0))]) F dJ4_newCapacity_12 rfl (by decide) rfl ?_
  refine g_iload_n F dJ4_newCapacity_13 0 rfl rfl ?_
  refine g_iload_n F dJ4_newCapacity_14 1 rfl rfl ?_
  refine g_isub F dJ4_newCapacity_15 ?_
  refine g_istore (lv' := [(4, .int ((nI m0) - (nI C))), (3, .int (nI m0)), (2, .int (nI C)), (0, .ref a), (1, .int (nI m0))]) F dJ4_newCapacity_16 (by decide) rfl ?_
  refine g_iload_n F dJ4_newCapacity_18 2 rfl rfl ?_
  refine g_iload F dJ4_newCapacity_19 0 rfl ?_
  refine g_iload_n F dJ4_newCapacity_21 2 rfl rfl ?_
  refine g_iconst (v := 2) F dJ4_newCapacity_22 rfl ?_
  refine g_aload_n F dJ4_newCapacity_23 3 rfl rfl ?_
  refine gf_J4_22_J5 (v := .int 0) F dJ4_newCapacity_24 ha rfl ?_
  refine g_ishl F dJ4_newCapacity_27 ?_
  refine g_iadd F dJ4_newCapacity_28 ?_
  refine g_eqs (st' := [.int (nI (C + 2)), .int (nI (m0 - C)), .int (nI C)]) (by rw [← pk_sub (by omega), sShl, ← nI_add]; rfl) ?_
  refine g_callS F dJ4_newCapacity_29 mi_J15_newLength q844 q661 (ct_J15_newLength (by rw [mMax_N (by omega) (by omega), nI_add]; exact nI_lt (a := 0) (by omega) (by omega)) (by rw [mMax_N (by omega) (by omega), nI_add]; exact nI_le (b := 2147483639) (by omega) (by decide))) rfl rfl (nle rfl) (nle rfl) (nle rfl) (g_pur ?_) g_purX
  refine g_eqs (st' := [.int (nI (C + max (m0 - C) (C + 2)))]) (by rw [mMax_N (by omega) (by omega), nI_add]) ?_
  refine g_istore (lv' := [(5, .int (nI (C + max (m0 - C) (C + 2)))), (4, .int ((nI m0) - (nI C))), (3, .int (nI m0)), (2, .int (nI C)), (0, .ref a), (1, .int (nI m0))]) F dJ4_newCapacity_32 (by decide) rfl ?_
  refine g_iload F dJ4_newCapacity_34 0 rfl ?_
  refine g_ldc F q845 dJ4_newCapacity_36 ?_
  refine g_icmp_ne (tgt := 51) F dJ4_newCapacity_38 (by decide) (fun c8 => ?_) (fun c8 => absurd c8 ((fun z => by have := (nI_eq (b := 2147483647) (by omega) (by decide)).mp z; omega)))
  refine g_iload F dJ4_newCapacity_51 0 rfl ?_
  refine g_aload_n F dJ4_newCapacity_53 4 rfl rfl ?_
  refine gf_J4_22_J5 (v := .int 0) F dJ4_newCapacity_54 ha rfl ?_
  refine g_ishr F dJ4_newCapacity_57 ?_
  refine g_eqs (st' := [.int (nI (C + max (m0 - C) (C + 2)))]) (by rw [sShr]) ?_
  exact g_iret F dJ4_newCapacity_58 (⟨rfl, rfl⟩)
theorem mMin_N {a b : Nat} (ha : a < 2 ^ 31) (hb : b < 2 ^ 31) : mMin (nI a) (nI b) = nI (min a b) := by
  unfold mMin
  by_cases q : b < a
  · rw [if_pos (nI_lt q ha), Nat.min_eq_right (by omega)]
  · rw [if_neg (nI_nlt (by omega) hb), Nat.min_eq_left (by omega)]
set_option maxHeartbeats 4000000 in
set_option maxRecDepth 100000 in
theorem ct_J17_copyOf_3 {K : gK} {h : AH} {d C C2 n : Nat} {t : Nat → Int32} (hd : h d = some (.inl (gT K 1, C, .inl (sbD t n)))) (hdo : gOld K d = none) (hnC : n ≤ C) (hlt : C < C2) (hC2 : C2 ≤ 300) (hcc : sbC t n) : gCt K yJ17_copyOf_3 w_J17_copyOf_3 1 27 1 300 h [.ref d, .int (nI C2)] (pO (nwO K h (.inl (gT K 1, C2, .inl (sbD t n))))) := by
  refine g_meth pf_J17_copyOf_3 (nle rfl) (fun p e s m args below meth c F hnm htb => ?_)
  have F : gFix K p s m args meth c cJ17_copyOf_3 3 RJ17 (some (.array .byte)) := F
  refine g_eql (lv' := [(0, .ref d), (1, .int (nI C2))]) rfl ?_
  refine g_iload_n F dJ17_copyOf_3_0 1 rfl rfl ?_
  refine g_aload_n F dJ17_copyOf_3_1 0 rfl rfl ?_
  refine g_alen F (by decide) hd dJ17_copyOf_3_2 ?_
  refine g_icmp_ne (tgt := 14) F dJ17_copyOf_3_3 (by decide) (fun c1 => ?_) (fun c1 => absurd c1 ((fun z => by have := (nI_eq (by omega) (by omega)).mp z; omega)))
  refine g_iload_n F dJ17_copyOf_3_14 1 rfl rfl ?_
  refine g_room (b' := 1) (bs' := (300 - C2) + C2) (by omega) (by omega) ?_
  refine g_newa (t := 1) (atype := .byte) (N := C2) (d := .inl (fun _ => 0)) (b := 0) (bs := (300 - C2)) F q275 (by decide) rfl (fun _ => rfl) dJ17_copyOf_3_15 (nI_pos (by omega)) (nI_clamp (by omega)) (by show _ * 1 ≤ _; omega) (fun q2 h_3 hn_e4 ho_e4 e4 => ?_)
  have d5 := gnew hn_e4 hd
  have f6 := gu_t e4 hd d5
  have f7 := gu_a e4
  refine g_astore_n (lv' := [(2, .ref q2), (0, .ref d), (1, .int (nI C2))]) F dJ17_copyOf_3_17 rfl (by decide) rfl ?_
  refine g_aload_n F dJ17_copyOf_3_18 1 rfl rfl ?_
  refine g_iconst (v := 0) F dJ17_copyOf_3_19 rfl ?_
  refine g_aload_n F dJ17_copyOf_3_20 0 rfl rfl ?_
  refine g_iconst (v := 0) F dJ17_copyOf_3_21 rfl ?_
  refine g_aload_n F dJ17_copyOf_3_22 1 rfl rfl ?_
  refine g_alen F (by decide) f6 dJ17_copyOf_3_23 ?_
  refine g_iload_n F dJ17_copyOf_3_24 2 rfl rfl ?_
  refine g_callS F dJ17_copyOf_3_25 mi_J16_min q713 q714 ct_J16_min rfl rfl (nle rfl) (nle rfl) (nle rfl) (g_pur ?_) g_purX
  refine g_acpy (t := 1) F ⟨q716, q718, q717, q94⟩ (by decide) f6 hdo f7 ho_e4 (by decide) (by decide) (by rw [mMin_N (by omega) (by omega)]; exact nI_pos (by omega)) (by rw [show (mMin (nI C) (nI C2)).toNatClampNeg = C by rw [mMin_N (by omega) (by omega), nI_clamp (by omega)]; omega]; exact Nat.le_of_eq (Nat.zero_add _)) (by rw [show (mMin (nI C) (nI C2)).toNatClampNeg = C by rw [mMin_N (by omega) (by omega), nI_clamp (by omega)]; omega, show (0 : Int32).toNatClampNeg = 0 from rfl]; omega) (fun i hi => sbD_f hcc _) (nle rfl) (nle rfl) dJ17_copyOf_3_28 (fun h_15 e16 => ?_)
  rw [show (mMin (nI C) (nI C2)).toNatClampNeg = C by rw [mMin_N (by omega) (by omega), nI_clamp (by omega)]; omega, show (0 : Int32).toNatClampNeg = 0 from rfl, sbD_cpy hnC] at e16
  have e17 := (by rw [e16, e4, gu_gu] : h_15 = gu h q2 _)
  have f18 := gu_t e16 f6 d5
  have f19 := gu_a e16
  refine g_aload_n F dJ17_copyOf_3_31 0 rfl rfl ?_
  exact g_aret F dJ17_copyOf_3_32 (Or.inr ⟨_, rfl⟩) (Or.inr ⟨_, rfl⟩) (⟨_, rfl, _, rfl, hn_e4, ho_e4, by rw [e16, e4, gu_gu]⟩)
theorem nsub_p {a b : Nat} (ha : a < 2 ^ 30) (hb : b < 2 ^ 30) (h : b < a) : ¬ nI a - nI b ≤ 0 := by
  rw [Int32.le_iff_toInt_le, pk_sub_toInt ha hb]
  show ¬ _ ≤ (0 : Int)
  omega
theorem nsub_np {a b : Nat} (ha : a < 2 ^ 30) (hb : b < 2 ^ 30) (h : a ≤ b) : nI a - nI b ≤ 0 := by
  rw [Int32.le_iff_toInt_le, pk_sub_toInt ha hb]
  show _ ≤ (0 : Int)
  omega
set_option maxHeartbeats 4000000 in
set_option maxRecDepth 100000 in
theorem ct_J4_ensureCapacityInternal {K : gK} {h : AH} {a d C n m0 : Nat} {t : Nat → Int32} (hs : sbX K h a d C t n) (hm : n ≤ m0) (hm2 : m0 ≤ 140) : gCt K yJ4_ensureCapacityInternal w_J4_ensureCapacityInternal 3 69 1 300 h [.ref a, .int (nI m0)] (pO (fun r h9 => r = none ∧ sbR K h a d m0 t n h9)) := by
  refine g_meth pf_J4_ensureCapacityInternal (nle rfl) (fun p e s m args below meth c F hnm htb => ?_)
  have F : gFix K p s m args meth c cJ4_ensureCapacityInternal 3 RJ4 none := F
  refine g_eql (lv' := [(0, .ref a), (1, .int (nI m0))]) rfl ?_
  have hs9 := hs
  obtain ⟨ha, hao, hdo, hd, hnC, hC2, hcc⟩ := hs
  refine g_aload_n F dJ4_ensureCapacityInternal_0 0 rfl rfl ?_
  refine gf_J4_15_J5 (v := .ref d) F dJ4_ensureCapacityInternal_1 ha rfl ?_
  refine g_alen F (by decide) hd dJ4_ensureCapacityInternal_4 ?_
  refine g_aload_n F dJ4_ensureCapacityInternal_5 0 rfl rfl ?_
  refine gf_J4_22_J5 (v := .int 0) F dJ4_ensureCapacityInternal_6 ha rfl ?_
  refine g_ishr F dJ4_ensureCapacityInternal_9 ?_
  refine g_istore_n (lv' := [(2, .int ((nI C) >>> (0 &&& 31))), (0, .ref a), (1, .int (nI m0))]) F dJ4_ensureCapacityInternal_10 rfl (by decide) rfl ?_
  refine g_iload_n F dJ4_ensureCapacityInternal_11 2 rfl rfl ?_
  refine g_iload_n F dJ4_ensureCapacityInternal_12 0 rfl rfl ?_
  refine g_isub F dJ4_ensureCapacityInternal_13 ?_
  refine g_if_le (tgt := 38) F dJ4_ensureCapacityInternal_14 (by decide) (fun c1 => ?_) (fun c1 => ?_)
  · have d0 : m0 ≤ C := by rw [sShr] at c1; exact Nat.le_of_not_lt (fun z => absurd c1 (nsub_p (by omega) (by omega) z))
    exact g_vret F dJ4_ensureCapacityInternal_38 (⟨none, rfl, rfl, d, C, ha, hdo, hd, d0, by omega, sbF.rf⟩)
  · have d0 : C < m0 := by rw [sShr] at c1; exact Nat.lt_of_not_le (fun z => c1 (nsub_np (by omega) (by omega) z))
    refine g_aload_n F dJ4_ensureCapacityInternal_17 1 rfl rfl ?_
    refine g_aload_n F dJ4_ensureCapacityInternal_18 1 rfl rfl ?_
    refine gf_J4_15_J5 (v := .ref d) F dJ4_ensureCapacityInternal_19 ha rfl ?_
    refine g_aload_n F dJ4_ensureCapacityInternal_22 1 rfl rfl ?_
    refine g_iload_n F dJ4_ensureCapacityInternal_23 2 rfl rfl ?_
    refine g_callVP F dJ4_ensureCapacityInternal_24 mi_J4_newCapacity q840 q842 q841 q2695 gc_J5 ha (ct_J4_newCapacity ⟨ha, hao, hdo, hd, hnC, hC2, hcc⟩ (by omega) (by omega)) rfl rfl (nle rfl) (nle rfl) (nle rfl) (g_pur ?_) g_purX
    refine g_aload_n F dJ4_ensureCapacityInternal_27 1 rfl rfl ?_
    refine gf_J4_22_J5 (v := .int 0) F dJ4_ensureCapacityInternal_28 ha rfl ?_
    refine g_ishl F dJ4_ensureCapacityInternal_31 ?_
    refine g_eqs (st' := [.int (nI (C + max (m0 - C) (C + 2))), .ref d, .ref a]) (by rw [sShl]) ?_
    refine g_callS (b := 0) (bs := 0) F dJ4_ensureCapacityInternal_32 mi_J17_copyOf_3 q846 q847 (ct_J17_copyOf_3 hd hdo hnC (by omega) (by omega) hcc) rfl rfl (nle rfl) (nle rfl) (nle rfl) (g_pO (fun v9 h_10 p11 => ?_)) g_pOX
    obtain ⟨q16, rfl, hn_e17, ho_e17, e17⟩ := p11
    have d18 := gnew hn_e17 ha
    have d19 := gnew hn_e17 hd
    have f20 := gu_t e17 ha d18
    have f21 := gu_t e17 hd d19
    have f22 := gu_a e17
    refine g_eqs (st' := [.ref q16, .ref a]) rfl ?_
    refine gp_J4_15_J5 (fs' := [.ref q16, .int 0, .int 0, .int (nI n)]) F dJ4_ensureCapacityInternal_35 (Or.inr ⟨_, rfl⟩) f20 hao (nle rfl) rfl (fun h_23 e24 => ?_)
    have f25 := gu_t e24 f21 (gneB f21 f20)
    have f26 := gu_t e24 f22 (Ne.symm d18)
    have f27 := gu_a e24
    exact g_vret F dJ4_ensureCapacityInternal_38 (⟨none, rfl, rfl, q16, C + max (m0 - C) (C + 2), f27, ho_e17, f26, by omega, by omega, ⟨.inr hn_e17, fun x ex hx n1 _ => gu_t e24 (gu_t e17 hx (gnew hn_e17 hx)) n1⟩⟩)
theorem getD_lt {l : List Nat} (h : ∀ c ∈ l, c < 128) (i : Nat) : l.getD i 0 < 128 := by
  by_cases q : i < l.length
  · exact h _ (getD_mem q)
  · rw [List.getD_eq_getElem?_getD, List.getElem?_eq_none (by omega)]; decide
set_option maxHeartbeats 4000000 in
set_option maxRecDepth 100000 in
theorem ct_J6_getBytes {K : gK} {h : AH} {d C n y b0 : Nat} {t : Nat → Int32} {hv zv : Int32} {tx : List Nat} (hy : gOld K y = some (.inr (7, [.ref b0, .int 0, .int hv, .int zv]))) (hb : gOld K b0 = some (.inl (gT K 1, tx.length, .inl (fun i => nI (tx.getD i 0))))) (hd : h d = some (.inl (gT K 1, C, .inl (sbD t n)))) (hdo : gOld K d = none) (hnC : n + tx.length ≤ C) (hC : C < 2 ^ 20) (htx : ∀ c ∈ tx, c < 128) : gCt K yJ6_getBytes w_J6_getBytes 1 27 0 0 h [.ref y, .ref d, .int (nI n), .int 0] (pV (gu h d (.inl (gT K 1, C, .inl (sbD (qPut t n tx) (n + tx.length)))))) := by
  refine g_meth pf_J6_getBytes (nle rfl) (fun p e s m args below meth c F hnm htb => ?_)
  have F : gFix K p s m args meth c cJ6_getBytes 4 RJ6 none := F
  refine g_eql (lv' := [(0, .ref y), (1, .ref d), (2, .int (nI n)), (3, .int 0)]) rfl ?_
  refine g_old hy (fun hy1 => ?_)
  refine g_old hb (fun hb1 => ?_)
  refine g_aload_n F dJ6_getBytes_0 0 rfl rfl ?_
  refine g_callV F dJ6_getBytes_1 mi_J6_coder q891 q892 q893 gc_J6 hy1 (ct_J6_coder hy1) rfl rfl (nle rfl) (nle rfl) (nle rfl) (g_pur ?_) g_purX
  refine g_iload_n F dJ6_getBytes_4 3 rfl rfl ?_
  refine g_icmp_ne (tgt := 28) F dJ6_getBytes_5 (by decide) (fun c8 => absurd c8 (by decide)) (fun c8 => ?_)
  refine g_aload_n F dJ6_getBytes_8 0 rfl rfl ?_
  refine gf_J6_9_J6 (v := .ref b0) F dJ6_getBytes_9 hy1 rfl ?_
  refine g_iconst (v := 0) F dJ6_getBytes_12 rfl ?_
  refine g_aload_n F dJ6_getBytes_13 1 rfl rfl ?_
  refine g_iload_n F dJ6_getBytes_14 2 rfl rfl ?_
  refine g_iload_n F dJ6_getBytes_15 3 rfl rfl ?_
  refine g_ishl F dJ6_getBytes_16 ?_
  refine g_eqs (st' := [.int (nI n), .ref d, .int 0, .ref b0]) (by rw [sShl]) ?_
  refine g_aload_n F dJ6_getBytes_17 0 rfl rfl ?_
  refine gf_J6_9_J6 (v := .ref b0) F dJ6_getBytes_18 hy1 rfl ?_
  refine g_alen F (by decide) hb1 dJ6_getBytes_21 ?_
  refine g_acpyO F ⟨q928, q718, q717, q94⟩ hb hd hdo (by decide) (nI_pos (by omega)) (nI_pos (by omega)) (by rw [nI_clamp (by omega)]; exact Nat.le_of_eq (Nat.zero_add _)) (by rw [nI_clamp (by omega), nI_clamp (by omega)]; omega) (fun i hi => fit_b (getD_lt htx _)) (nle rfl) (nle rfl) dJ6_getBytes_22 (fun h_9 e10 => ?_)
  rw [nI_clamp (show n < 2 ^ 31 by omega), nI_clamp (show tx.length < 2 ^ 31 by omega), show (0 : Int32).toNatClampNeg = 0 from rfl, sbD_put] at e10
  have f11 := gu_t e10 hy1 (gneA hy1 hd)
  have f12 := gu_t e10 hb1 (by rintro rfl; rw [hdo] at hb; cases hb)
  have f13 := gu_a e10
  refine g_goto (tgt := 43) F dJ6_getBytes_25 (by decide) ?_
  exact g_vret F dJ6_getBytes_43 (⟨rfl, by rw [e10]⟩)
set_option maxHeartbeats 4000000 in
set_option maxRecDepth 100000 in
theorem ct_J4_isLatin1 {K : gK} {h : AH} {a d n : Nat} (ha : h a = some (.inr (6, [.ref d, .int 0, .int 0, .int (nI n)]))) : gCt K yJ4_isLatin1 w_J4_isLatin1 0 0 0 0 h [.ref a] (pR (.int 1) h) := by
  refine g_meth pf_J4_isLatin1 (nle rfl) (fun p e s m args below meth c F hnm htb => ?_)
  have F : gFix K p s m args meth c cJ4_isLatin1 1 RJ4 (some .boolean) := F
  refine g_eql (lv' := [(0, .ref a)]) rfl ?_
  refine g_gets F (gZs_0 K) q253 (fun _ h9 => h9) dJ4_isLatin1_0 ?_
  refine g_if_eq (tgt := 17) F dJ4_isLatin1_3 (by decide) (fun c1 => absurd c1 (by decide)) (fun c1 => ?_)
  refine g_aload_n F dJ4_isLatin1_6 0 rfl rfl ?_
  refine gf_J4_22_J5 (v := .int 0) F dJ4_isLatin1_7 ha rfl ?_
  refine g_if_ne (tgt := 17) F dJ4_isLatin1_10 (by decide) (fun c2 => absurd c2 (by decide)) (fun c2 => ?_)
  refine g_iconst (v := 1) F dJ4_isLatin1_13 rfl ?_
  refine g_goto (tgt := 18) F dJ4_isLatin1_14 (by decide) ?_
  exact g_zret F dJ4_isLatin1_18 (by first | rfl | exact mIn_n | (split <;> rfl) | decide) (⟨rfl, rfl⟩)
set_option maxHeartbeats 4000000 in
set_option maxRecDepth 100000 in
theorem ct_J4_inflateIfNeededFor {K : gK} {h : AH} {a d C n y b0 : Nat} {t : Nat → Int32} {hv zv : Int32} {tx : List Nat} (hy : gOld K y = some (.inr (7, [.ref b0, .int 0, .int hv, .int zv]))) (hb : gOld K b0 = some (.inl (gT K 1, tx.length, .inl (fun i => nI (tx.getD i 0))))) (hd : h d = some (.inl (gT K 1, C, .inl (sbD t n)))) (hdo : gOld K d = none) (hnC : n + tx.length ≤ C) (hC : C < 2 ^ 20) (htx : ∀ c ∈ tx, c < 128) (ha : h a = some (.inr (6, [.ref d, .int 0, .int 0, .int (nI n)]))) : gCt K yJ4_inflateIfNeededFor w_J4_inflateIfNeededFor 1 20 0 0 h [.ref a, .ref y] (pV h) := by
  refine g_meth pf_J4_inflateIfNeededFor (nle rfl) (fun p e s m args below meth c F hnm htb => ?_)
  have F : gFix K p s m args meth c cJ4_inflateIfNeededFor 2 RJ4 none := F
  refine g_eql (lv' := [(0, .ref a), (1, .ref y)]) rfl ?_
  refine g_old hy (fun hy1 => ?_)
  refine g_old hb (fun hb1 => ?_)
  refine g_gets F (gZs_0 K) q253 (fun _ h9 => h9) dJ4_inflateIfNeededFor_0 ?_
  refine g_if_eq (tgt := 21) F dJ4_inflateIfNeededFor_3 (by decide) (fun c1 => absurd c1 (by decide)) (fun c1 => ?_)
  refine g_aload_n F dJ4_inflateIfNeededFor_6 0 rfl rfl ?_
  refine gf_J4_22_J5 (v := .int 0) F dJ4_inflateIfNeededFor_7 ha rfl ?_
  refine g_aload_n F dJ4_inflateIfNeededFor_10 1 rfl rfl ?_
  refine g_callV F dJ4_inflateIfNeededFor_11 mi_J6_coder q904 q892 q893 gc_J6 hy1 (ct_J6_coder hy1) rfl rfl (nle rfl) (nle rfl) (nle rfl) (g_pur ?_) g_purX
  refine g_icmp_eq (tgt := 21) F dJ4_inflateIfNeededFor_14 (by decide) (fun c9 => ?_) (fun c9 => absurd c9 (by decide))
  exact g_vret F dJ4_inflateIfNeededFor_21 (⟨rfl, rfl⟩)
set_option maxHeartbeats 4000000 in
set_option maxRecDepth 100000 in
theorem ct_J4_putStringAt {K : gK} {h : AH} {a d C n y b0 : Nat} {t : Nat → Int32} {hv zv : Int32} {tx : List Nat} (hy : gOld K y = some (.inr (7, [.ref b0, .int 0, .int hv, .int zv]))) (hb : gOld K b0 = some (.inl (gT K 1, tx.length, .inl (fun i => nI (tx.getD i 0))))) (hd : h d = some (.inl (gT K 1, C, .inl (sbD t n)))) (hdo : gOld K d = none) (hnC : n + tx.length ≤ C) (hC : C < 2 ^ 20) (htx : ∀ c ∈ tx, c < 128) (ha : h a = some (.inr (6, [.ref d, .int 0, .int 0, .int (nI n)]))) : gCt K yJ4_putStringAt w_J4_putStringAt 2 50 0 0 h [.ref a, .int (nI n), .ref y] (pV (gu h d (.inl (gT K 1, C, .inl (sbD (qPut t n tx) (n + tx.length)))))) := by
  refine g_meth pf_J4_putStringAt (nle rfl) (fun p e s m args below meth c F hnm htb => ?_)
  have F : gFix K p s m args meth c cJ4_putStringAt 3 RJ4 none := F
  refine g_eql (lv' := [(0, .ref a), (1, .int (nI n)), (2, .ref y)]) rfl ?_
  refine g_old hy (fun hy1 => ?_)
  refine g_old hb (fun hb1 => ?_)
  refine g_aload_n F dJ4_putStringAt_0 0 rfl rfl ?_
  refine g_aload_n F dJ4_putStringAt_1 2 rfl rfl ?_
  refine g_callVP F dJ4_putStringAt_2 mi_J4_inflateIfNeededFor q900 q902 q901 q2697 gc_J5 ha (ct_J4_inflateIfNeededFor hy hb hd hdo hnC hC htx ha) rfl rfl (nle rfl) (nle rfl) (nle rfl) (g_purv ?_) g_purvX
  refine g_aload_n F dJ4_putStringAt_5 2 rfl rfl ?_
  refine g_aload_n F dJ4_putStringAt_6 0 rfl rfl ?_
  refine gf_J4_15_J5 (v := .ref d) F dJ4_putStringAt_7 ha rfl ?_
  refine g_iload_n F dJ4_putStringAt_10 1 rfl rfl ?_
  refine g_aload_n F dJ4_putStringAt_11 0 rfl rfl ?_
  refine gf_J4_22_J5 (v := .int 0) F dJ4_putStringAt_12 ha rfl ?_
  refine g_callV F dJ4_putStringAt_15 mi_J6_getBytes q924 q925 q926 gc_J6 hy1 (ct_J6_getBytes hy hb hd hdo hnC hC htx) rfl rfl (nle rfl) (nle rfl) (nle rfl) (g_purv ?_) g_purvX
  refine g_gen (fun h_15 e16 => ?_)
  have f17 := gu_t e16 hy1 (gneA hy1 hd)
  have f18 := gu_t e16 hb1 (by rintro rfl; rw [hdo] at hb; cases hb)
  have f19 := gu_t e16 ha (gneA ha hd)
  have f20 := gu_a e16
  exact g_vret F dJ4_putStringAt_18 (⟨rfl, by rw [e16]⟩)
set_option maxHeartbeats 4000000 in
set_option maxRecDepth 100000 in
theorem ct_J4_append {K : gK} {h : AH} {a d n y : Nat} {t : Nat → Int32} {tx : List Nat} (hs : sbO K h a d t n) (hS : gStr K y tx) (htx : ∀ c ∈ tx, c < 128) (hm2 : n + tx.length ≤ 140) : gCt K yJ4_append w_J4_append 4 91 1 300 h [.ref a, .ref y] (pO (fun r h9 => r = some (.ref a) ∧ ∃ d9, sbO K h9 a d9 (qPut t n tx) (n + tx.length) ∧ sbF h h9 a d d9)) := by
  refine g_meth pf_J4_append (nle rfl) (fun p e s m args below meth c F hnm htb => ?_)
  have F : gFix K p s m args meth c cJ4_append 3 RJ4 (some (.object "java/lang/AbstractStringBuilder")) := F
  refine g_eql (lv' := [(0, .ref a), (1, .ref y)]) rfl ?_
  obtain ⟨C, hs⟩ := hs
  have hs9 := hs
  obtain ⟨ha, hao, hdo, hd, hnC, hC2, hcc⟩ := hs
  obtain ⟨b0, hv, zv, hy, hb⟩ := hS
  refine g_old hy (fun hy1 => ?_)
  refine g_old hb (fun hb1 => ?_)
  refine g_aload_n F dJ4_append_0 1 rfl rfl ?_
  refine g_ifnonnull (tgt := 9) F dJ4_append_1 (by decide) ?_
  refine g_aload_n F dJ4_append_9 1 rfl rfl ?_
  refine g_callV F dJ4_append_10 mi_J6_length q887 q888 q889 gc_J6 hy1 (ct_J6_length hy1 hb1 (by omega)) rfl rfl (nle rfl) (nle rfl) (nle rfl) (g_pur ?_) g_purX
  refine g_istore_n (lv' := [(2, .int (nI (tx.length))), (0, .ref a), (1, .ref y)]) F dJ4_append_13 rfl (by decide) rfl ?_
  refine g_aload_n F dJ4_append_14 1 rfl rfl ?_
  refine g_aload_n F dJ4_append_15 1 rfl rfl ?_
  refine gf_J4_79_J5 (v := .int (nI n)) F dJ4_append_16 ha rfl ?_
  refine g_iload_n F dJ4_append_19 0 rfl rfl ?_
  refine g_iadd F dJ4_append_20 ?_
  refine g_eqs (st' := [.int (nI (n + tx.length)), .ref a]) (by rw [nI_add]) ?_
  refine g_callVP (b := 0) (bs := 0) F dJ4_append_21 mi_J4_ensureCapacityInternal q836 q838 q837 q2694 gc_J5 ha (ct_J4_ensureCapacityInternal (m0 := (n + tx.length)) hs9 (by omega) (by omega)) rfl rfl (nle rfl) (nle rfl) (nle rfl) (g_pO (fun v8 h_9 p10 => ?_)) g_pOX
  obtain ⟨rfl, d1, C1, ha1, hdo1, hd1, hm1, hC1, hF1⟩ := p10
  refine g_eqs (st' := []) rfl ?_
  refine g_old hy (fun hy2 => ?_)
  refine g_old hb (fun hb2 => ?_)
  refine g_aload_n F dJ4_append_24 1 rfl rfl ?_
  refine g_aload_n F dJ4_append_25 1 rfl rfl ?_
  refine gf_J4_79_J5 (v := .int (nI n)) F dJ4_append_26 ha1 rfl ?_
  refine g_aload_n F dJ4_append_29 2 rfl rfl ?_
  refine g_callVP F dJ4_append_30 mi_J4_putStringAt q896 q898 q897 q2696 gc_J5 ha1 (ct_J4_putStringAt hy hb hd1 hdo1 (by omega) (by omega) htx ha1) rfl rfl (nle rfl) (nle rfl) (nle rfl) (g_purv ?_) g_purvX
  refine g_gen (fun h_22 e23 => ?_)
  have f24 := gu_t e23 ha1 (gneA ha1 hd1)
  have f25 := gu_a e23
  refine g_aload_n F dJ4_append_33 1 rfl rfl ?_
  refine g_dup F dJ4_append_34 rfl ?_
  refine gf_J4_79_J5 (v := .int (nI n)) F dJ4_append_35 f24 rfl ?_
  refine g_iload_n F dJ4_append_38 0 rfl rfl ?_
  refine g_iadd F dJ4_append_39 ?_
  refine g_eqs (st' := [.int (nI (n + tx.length)), .ref a]) (by rw [nI_add]) ?_
  refine gp_J4_79_J5 (fs' := [.ref d1, .int 0, .int 0, .int (nI (n + tx.length))]) F dJ4_append_40 f24 hao (nle rfl) rfl (fun h_26 e27 => ?_)
  have f28 := gu_t e27 f25 (gneB f25 f24)
  have f29 := gu_a e27
  refine g_aload_n F dJ4_append_43 1 rfl rfl ?_
  exact g_aret F dJ4_append_44 (Or.inl ⟨_, rfl⟩) (Or.inr ⟨_, rfl⟩) (⟨_, rfl, rfl, d1, ⟨C1, f29, hao, hdo1, f28, by omega, by omega, sbC_p hcc htx⟩, (sbF.wa (sbF.wd hF1 e23) e27)⟩)
set_option maxHeartbeats 4000000 in
set_option maxRecDepth 100000 in
theorem ct_J5_append {K : gK} {h : AH} {a d n y : Nat} {t : Nat → Int32} {tx : List Nat} (hs : sbO K h a d t n) (hS : gStr K y tx) (htx : ∀ c ∈ tx, c < 128) (hm2 : n + tx.length ≤ 140) : gCt K yJ5_append w_J5_append 5 113 1 300 h [.ref a, .ref y] (pO (fun r h9 => r = some (.ref a) ∧ ∃ d9, sbO K h9 a d9 (qPut t n tx) (n + tx.length) ∧ sbF h h9 a d d9)) := by
  refine g_meth pf_J5_append (nle rfl) (fun p e s m args below meth c F hnm htb => ?_)
  have F : gFix K p s m args meth c cJ5_append 2 RJ5 (some (.object "java/lang/StringBuilder")) := F
  refine g_eql (lv' := [(0, .ref a), (1, .ref y)]) rfl ?_
  have hs8 := hs
  obtain ⟨C, hs⟩ := hs
  have hs9 := hs
  obtain ⟨ha, hao, hdo, hd, hnC, hC2, hcc⟩ := hs
  refine g_aload_n F dJ5_append_0 0 rfl rfl ?_
  refine g_aload_n F dJ5_append_1 1 rfl rfl ?_
  refine g_callSU (b := 0) (bs := 0) F dJ5_append_2 mi_J4_append (by decide) q829 q2692 q274 q830 gc_J5 ha (ct_J4_append hs8 hS htx hm2) rfl rfl (nle rfl) (nle rfl) (nle rfl) (g_pO (fun v1 h_2 p3 => ?_)) g_pOX
  obtain ⟨rfl, p3⟩ := p3
  refine g_eqs (st' := [.ref a]) rfl ?_
  refine g_pop F dJ5_append_5 rfl ?_
  refine g_aload_n F dJ5_append_6 0 rfl rfl ?_
  exact g_aret F dJ5_append_7 (Or.inl ⟨_, rfl⟩) (Or.inr ⟨_, rfl⟩) (⟨_, rfl, rfl, p3⟩)
set_option maxHeartbeats 4000000 in
set_option maxRecDepth 100000 in
theorem ct_J18_canEncode {K : gK} {h : AH} {x : Int32} (hx : x ≤ 255) : gCt K yJ18_canEncode w_J18_canEncode 0 0 0 0 h [.int x] (pR (.int 1) h) := by
  refine g_meth pf_J18_canEncode (nle rfl) (fun p e s m args below meth c F hnm htb => ?_)
  have F : gFix K p s m args meth c cJ18_canEncode 1 RJ18 (some .boolean) := F
  refine g_eql (lv' := [(0, .int x)]) rfl ?_
  refine g_iload_n F dJ18_canEncode_0 0 rfl rfl ?_
  refine g_sipush (v := 255) F dJ18_canEncode_1 rfl ?_
  refine g_icmp_gt (tgt := 11) F dJ18_canEncode_4 (by decide) (fun c1 => absurd c1 ((fun z => absurd hx (Int32.not_le.mpr z)))) (fun c1 => ?_)
  refine g_iconst (v := 1) F dJ18_canEncode_7 rfl ?_
  refine g_goto (tgt := 12) F dJ18_canEncode_8 (by decide) ?_
  exact g_zret F dJ18_canEncode_12 (by first | rfl | exact mIn_n | (split <;> rfl) | decide) (⟨rfl, rfl⟩)
set_option maxHeartbeats 4000000 in
set_option maxRecDepth 100000 in
theorem ct_J4_append_3 {K : gK} {h : AH} {a d n k : Nat} {t : Nat → Int32} (hs : sbO K h a d t n) (hk : k < 128) (hm2 : n + 1 ≤ 140) : gCt K yJ4_append_3 w_J4_append_3 4 91 1 300 h [.ref a, .int (nI k)] (pO (fun r h9 => r = some (.ref a) ∧ ∃ d9, sbO K h9 a d9 (upd t n (nI k)) (n + 1) ∧ sbF h h9 a d d9)) := by
  refine g_meth pf_J4_append_3 (nle rfl) (fun p e s m args below meth c F hnm htb => ?_)
  have F : gFix K p s m args meth c cJ4_append_3 2 RJ4 (some (.object "java/lang/AbstractStringBuilder")) := F
  refine g_eql (lv' := [(0, .ref a), (1, .int (nI k))]) rfl ?_
  obtain ⟨C, hs⟩ := hs
  have hs9 := hs
  obtain ⟨ha, hao, hdo, hd, hnC, hC2, hcc⟩ := hs
  refine g_aload_n F dJ4_append_3_0 0 rfl rfl ?_
  refine g_aload_n F dJ4_append_3_1 0 rfl rfl ?_
  refine gf_J4_79_J5 (v := .int (nI n)) F dJ4_append_3_2 ha rfl ?_
  refine g_iconst (v := 1) F dJ4_append_3_5 rfl ?_
  refine g_iadd F dJ4_append_3_6 ?_
  refine g_eqs (st' := [.int (nI (n + 1)), .ref a]) (by rw [nI_1]) ?_
  refine g_callVP (b := 0) (bs := 0) F dJ4_append_3_7 mi_J4_ensureCapacityInternal q836 q838 q837 q2694 gc_J5 ha (ct_J4_ensureCapacityInternal (m0 := (n + 1)) hs9 (by omega) (by omega)) rfl rfl (nle rfl) (nle rfl) (nle rfl) (g_pO (fun v1 h_2 p3 => ?_)) g_pOX
  obtain ⟨rfl, d1, C1, ha1, hdo1, hd1, hm1, hC1, hF1⟩ := p3
  refine g_eqs (st' := []) rfl ?_
  refine g_aload_n F dJ4_append_3_10 0 rfl rfl ?_
  refine g_callV F dJ4_append_3_11 mi_J4_isLatin1 q856 q857 q859 gc_J5 ha1 (ct_J4_isLatin1 ha1) rfl rfl (nle rfl) (nle rfl) (nle rfl) (g_pur ?_) g_purX
  refine g_if_eq (tgt := 45) F dJ4_append_3_14 (by decide) (fun c15 => absurd c15 (by decide)) (fun c15 => ?_)
  refine g_iload_n F dJ4_append_3_17 1 rfl rfl ?_
  refine g_callS F dJ4_append_3_18 mi_J18_canEncode q1290 q1291 (ct_J18_canEncode (nI_le (b := 255) (by omega) (by decide))) rfl rfl (nle rfl) (nle rfl) (nle rfl) (g_pur ?_) g_purX
  refine g_if_eq (tgt := 45) F dJ4_append_3_21 (by decide) (fun c23 => absurd c23 (by decide)) (fun c23 => ?_)
  refine g_aload_n F dJ4_append_3_24 0 rfl rfl ?_
  refine gf_J4_15_J5 (v := .ref d1) F dJ4_append_3_25 ha1 rfl ?_
  refine g_aload_n F dJ4_append_3_28 0 rfl rfl ?_
  refine g_dup F dJ4_append_3_29 rfl ?_
  refine gf_J4_79_J5 (v := .int (nI n)) F dJ4_append_3_30 ha1 rfl ?_
  refine g_dup_x1 F dJ4_append_3_33 rfl rfl ?_
  refine g_iconst (v := 1) F dJ4_append_3_34 rfl ?_
  refine g_iadd F dJ4_append_3_35 ?_
  refine g_eqs (st' := [.int (nI (n + 1)), .ref a, .int (nI n), .ref d1]) (by rw [nI_1]) ?_
  refine gp_J4_79_J5 (fs' := [.ref d1, .int 0, .int 0, .int (nI (n + 1))]) F dJ4_append_3_36 ha1 hao (nle rfl) rfl (fun h_24 e25 => ?_)
  have f26 := gu_t e25 hd1 (gneB hd1 ha1)
  have f27 := gu_a e25
  refine g_iload_n F dJ4_append_3_39 1 rfl rfl ?_
  refine g_i2b F dJ4_append_3_40 rfl ?_
  refine g_bastN (i := n) (z := nI k) F f26 hdo1 rfl rfl (by omega) (by omega) dJ4_append_3_41 (by rw [i2b_k hk, nar_b hk]) (fun h_28 e29 => ?_)
  have f30 := gu_t e29 f27 (gneA f27 f26)
  have f31 := gu_a e29
  rw [show (upd (sbD t n) n (nI k)) = (sbD (upd t n (nI k)) (n + 1)) from sbD_1] at e29
  have f32 := gu_a e29
  refine g_goto (tgt := 75) F dJ4_append_3_42 (by decide) ?_
  refine g_aload_n F dJ4_append_3_75 0 rfl rfl ?_
  exact g_aret F dJ4_append_3_76 (Or.inl ⟨_, rfl⟩) (Or.inr ⟨_, rfl⟩) (⟨_, rfl, rfl, d1, ⟨C1, f30, hao, hdo1, f32, by omega, by omega, sbC_1 hcc hk⟩, (sbF.wd (sbF.wa hF1 e25) e29)⟩)
set_option maxHeartbeats 4000000 in
set_option maxRecDepth 100000 in
theorem ct_J5_append_3 {K : gK} {h : AH} {a d n k : Nat} {t : Nat → Int32} (hs : sbO K h a d t n) (hk : k < 128) (hm2 : n + 1 ≤ 140) : gCt K yJ5_append_3 w_J5_append_3 5 112 1 300 h [.ref a, .int (nI k)] (pO (fun r h9 => r = some (.ref a) ∧ ∃ d9, sbO K h9 a d9 (upd t n (nI k)) (n + 1) ∧ sbF h h9 a d d9)) := by
  refine g_meth pf_J5_append_3 (nle rfl) (fun p e s m args below meth c F hnm htb => ?_)
  have F : gFix K p s m args meth c cJ5_append_3 2 RJ5 (some (.object "java/lang/StringBuilder")) := F
  refine g_eql (lv' := [(0, .ref a), (1, .int (nI k))]) rfl ?_
  have hs8 := hs
  obtain ⟨C, hs⟩ := hs
  have hs9 := hs
  obtain ⟨ha, hao, hdo, hd, hnC, hC2, hcc⟩ := hs
  refine g_aload_n F dJ5_append_3_0 0 rfl rfl ?_
  refine g_iload_n F dJ5_append_3_1 1 rfl rfl ?_
  refine g_callSU (b := 0) (bs := 0) F dJ5_append_3_2 mi_J4_append_3 (by decide) q1287 q2701 q274 q1288 gc_J5 ha (ct_J4_append_3 hs8 hk hm2) rfl rfl (nle rfl) (nle rfl) (nle rfl) (g_pO (fun v1 h_2 p3 => ?_)) g_pOX
  obtain ⟨rfl, p3⟩ := p3
  refine g_eqs (st' := [.ref a]) rfl ?_
  refine g_pop F dJ5_append_3_5 rfl ?_
  refine g_aload_n F dJ5_append_3_6 0 rfl rfl ?_
  exact g_aret F dJ5_append_3_7 (Or.inl ⟨_, rfl⟩) (Or.inr ⟨_, rfl⟩) (⟨_, rfl, rfl, p3⟩)
set_option maxHeartbeats 4000000 in
set_option maxRecDepth 100000 in
theorem ct_J20_stringSize {K : gK} {h : AH} {x : Nat} (hx : x < 10000) : gCt K yJ20_stringSize w_J20_stringSize 0 0 0 0 h [.int (nI x)] (pR (.int (nI (qDg x).length)) h) := by
  refine g_meth pf_J20_stringSize (nle rfl) (fun p e s m args below meth c F hnm htb => ?_)
  have F : gFix K p s m args meth c cJ20_stringSize 4 RJ20 (some .int) := F
  refine g_eql (lv' := [(0, .int (nI x))]) rfl ?_
  refine g_iconst (v := 1) F dJ20_stringSize_0 rfl ?_
  refine g_istore_n (lv' := [(1, .int 1), (0, .int (nI x))]) F dJ20_stringSize_1 rfl (by decide) rfl ?_
  refine g_iload_n F dJ20_stringSize_2 1 rfl rfl ?_
  refine g_if_lt (tgt := 11) F dJ20_stringSize_3 (by decide) (fun c1 => absurd c1 ((fun z => absurd z (nI_pos (by omega))))) (fun c1 => ?_)
  refine g_iconst (v := 0) F dJ20_stringSize_6 rfl ?_
  refine g_istore_n (lv' := [(1, .int 0), (0, .int (nI x))]) F dJ20_stringSize_7 rfl (by decide) rfl ?_
  refine g_iload_n F dJ20_stringSize_8 1 rfl rfl ?_
  refine g_ineg F dJ20_stringSize_9 ?_
  refine g_istore_n (lv' := [(0, .int (-(nI x))), (1, .int 0)]) F dJ20_stringSize_10 rfl (by decide) rfl ?_
  refine g_bipush (v := (-10)) F dJ20_stringSize_11 rfl ?_
  refine g_istore_n (lv' := [(2, .int (-10)), (0, .int (-(nI x))), (1, .int 0)]) F dJ20_stringSize_13 rfl (by decide) rfl ?_
  refine g_iconst (v := 1) F dJ20_stringSize_14 rfl ?_
  refine g_istore_n (lv' := [(3, .int 1), (2, .int (-10)), (0, .int (-(nI x))), (1, .int 0)]) F dJ20_stringSize_15 rfl (by decide) rfl ?_
  refine g_iload_n F dJ20_stringSize_16 0 rfl rfl ?_
  refine g_bipush (v := 10) F dJ20_stringSize_17 rfl ?_
  refine g_icmp_ge (tgt := 42) F dJ20_stringSize_19 (by decide) (fun c2 => absurd c2 (by decide)) (fun c2 => ?_)
  refine g_iload_n F dJ20_stringSize_22 2 rfl rfl ?_
  refine g_iload_n F dJ20_stringSize_23 1 rfl rfl ?_
  refine g_icmp_le (tgt := 31) F dJ20_stringSize_24 (by decide) (fun c3 => ?_) (fun c3 => ?_)
  · have d1 : 10 ≤ x := (ng_le (y := 10) (by omega) (by decide)).mp c3
    refine g_bipush (v := 10) F dJ20_stringSize_31 rfl ?_
    refine g_iload_n F dJ20_stringSize_33 1 rfl rfl ?_
    refine g_imul F dJ20_stringSize_34 ?_
    refine g_eqs (st' := [.int (-100)]) (rfl) ?_
    refine g_istore_n (lv' := [(2, .int (-100)), (3, .int 1), (0, .int (-(nI x))), (1, .int 0)]) F dJ20_stringSize_35 rfl (by decide) rfl ?_
    refine g_iinc (lv' := [(3, .int 2), (2, .int (-100)), (0, .int (-(nI x))), (1, .int 0)]) (v := 2) F dJ20_stringSize_36 (k := 1) rfl rfl (by decide) rfl ?_
    refine g_goto (tgt := 16) F dJ20_stringSize_39 (by decide) ?_
    refine g_iload_n F dJ20_stringSize_16 0 rfl rfl ?_
    refine g_bipush (v := 10) F dJ20_stringSize_17 rfl ?_
    refine g_icmp_ge (tgt := 42) F dJ20_stringSize_19 (by decide) (fun c4 => absurd c4 (by decide)) (fun c4 => ?_)
    refine g_iload_n F dJ20_stringSize_22 2 rfl rfl ?_
    refine g_iload_n F dJ20_stringSize_23 1 rfl rfl ?_
    refine g_icmp_le (tgt := 31) F dJ20_stringSize_24 (by decide) (fun c5 => ?_) (fun c5 => ?_)
    · have d2 : 100 ≤ x := (ng_le (y := 100) (by omega) (by decide)).mp c5
      refine g_bipush (v := 10) F dJ20_stringSize_31 rfl ?_
      refine g_iload_n F dJ20_stringSize_33 1 rfl rfl ?_
      refine g_imul F dJ20_stringSize_34 ?_
      refine g_eqs (st' := [.int (-1000)]) (rfl) ?_
      refine g_istore_n (lv' := [(2, .int (-1000)), (3, .int 2), (0, .int (-(nI x))), (1, .int 0)]) F dJ20_stringSize_35 rfl (by decide) rfl ?_
      refine g_iinc (lv' := [(3, .int 3), (2, .int (-1000)), (0, .int (-(nI x))), (1, .int 0)]) (v := 3) F dJ20_stringSize_36 (k := 1) rfl rfl (by decide) rfl ?_
      refine g_goto (tgt := 16) F dJ20_stringSize_39 (by decide) ?_
      refine g_iload_n F dJ20_stringSize_16 0 rfl rfl ?_
      refine g_bipush (v := 10) F dJ20_stringSize_17 rfl ?_
      refine g_icmp_ge (tgt := 42) F dJ20_stringSize_19 (by decide) (fun c6 => absurd c6 (by decide)) (fun c6 => ?_)
      refine g_iload_n F dJ20_stringSize_22 2 rfl rfl ?_
      refine g_iload_n F dJ20_stringSize_23 1 rfl rfl ?_
      refine g_icmp_le (tgt := 31) F dJ20_stringSize_24 (by decide) (fun c7 => ?_) (fun c7 => ?_)
      · have d3 : 1000 ≤ x := (ng_le (y := 1000) (by omega) (by decide)).mp c7
        refine g_bipush (v := 10) F dJ20_stringSize_31 rfl ?_
        refine g_iload_n F dJ20_stringSize_33 1 rfl rfl ?_
        refine g_imul F dJ20_stringSize_34 ?_
        refine g_eqs (st' := [.int (-10000)]) (rfl) ?_
        refine g_istore_n (lv' := [(2, .int (-10000)), (3, .int 3), (0, .int (-(nI x))), (1, .int 0)]) F dJ20_stringSize_35 rfl (by decide) rfl ?_
        refine g_iinc (lv' := [(3, .int 4), (2, .int (-10000)), (0, .int (-(nI x))), (1, .int 0)]) (v := 4) F dJ20_stringSize_36 (k := 1) rfl rfl (by decide) rfl ?_
        refine g_goto (tgt := 16) F dJ20_stringSize_39 (by decide) ?_
        refine g_iload_n F dJ20_stringSize_16 0 rfl rfl ?_
        refine g_bipush (v := 10) F dJ20_stringSize_17 rfl ?_
        refine g_icmp_ge (tgt := 42) F dJ20_stringSize_19 (by decide) (fun c8 => absurd c8 (by decide)) (fun c8 => ?_)
        refine g_iload_n F dJ20_stringSize_22 2 rfl rfl ?_
        refine g_iload_n F dJ20_stringSize_23 1 rfl rfl ?_
        refine g_icmp_le (tgt := 31) F dJ20_stringSize_24 (by decide) (fun c9 => absurd c9 ((fun z => absurd ((ng_le (y := 10000) (by omega) (by decide)).mp z) (by omega)))) (fun c9 => ?_)
        refine g_iload_n F dJ20_stringSize_27 0 rfl rfl ?_
        refine g_iload_n F dJ20_stringSize_28 3 rfl rfl ?_
        refine g_iadd F dJ20_stringSize_29 ?_
        exact g_iret F dJ20_stringSize_30 (⟨by first | (rw [dg_l1 (by omega)]; rfl) | (rw [dg_l2 (by omega) (by omega)]; rfl) | (rw [dg_l3 (by omega) (by omega)]; rfl) | (rw [dg_l4 (by omega)]; rfl), rfl⟩)
      · have d3 : x < 1000 := Nat.lt_of_not_le (fun z => c7 ((ng_le (y := 1000) (by omega) (by decide)).mpr z))
        refine g_iload_n F dJ20_stringSize_27 0 rfl rfl ?_
        refine g_iload_n F dJ20_stringSize_28 3 rfl rfl ?_
        refine g_iadd F dJ20_stringSize_29 ?_
        exact g_iret F dJ20_stringSize_30 (⟨by first | (rw [dg_l1 (by omega)]; rfl) | (rw [dg_l2 (by omega) (by omega)]; rfl) | (rw [dg_l3 (by omega) (by omega)]; rfl) | (rw [dg_l4 (by omega)]; rfl), rfl⟩)
    · have d2 : x < 100 := Nat.lt_of_not_le (fun z => c5 ((ng_le (y := 100) (by omega) (by decide)).mpr z))
      refine g_iload_n F dJ20_stringSize_27 0 rfl rfl ?_
      refine g_iload_n F dJ20_stringSize_28 3 rfl rfl ?_
      refine g_iadd F dJ20_stringSize_29 ?_
      exact g_iret F dJ20_stringSize_30 (⟨by first | (rw [dg_l1 (by omega)]; rfl) | (rw [dg_l2 (by omega) (by omega)]; rfl) | (rw [dg_l3 (by omega) (by omega)]; rfl) | (rw [dg_l4 (by omega)]; rfl), rfl⟩)
  · have d1 : x < 10 := Nat.lt_of_not_le (fun z => c3 ((ng_le (y := 10) (by omega) (by decide)).mpr z))
    refine g_iload_n F dJ20_stringSize_27 0 rfl rfl ?_
    refine g_iload_n F dJ20_stringSize_28 3 rfl rfl ?_
    refine g_iadd F dJ20_stringSize_29 ?_
    exact g_iret F dJ20_stringSize_30 (⟨by first | (rw [dg_l1 (by omega)]; rfl) | (rw [dg_l2 (by omega) (by omega)]; rfl) | (rw [dg_l3 (by omega) (by omega)]; rfl) | (rw [dg_l4 (by omega)]; rfl), rfl⟩)
set_option maxHeartbeats 4000000 in
set_option maxRecDepth 100000 in
theorem ct_J20_getChars4 {K : gK} {h : AH} {d n C x : Nat} {t : Nat → Int32} (hD : gKD K) (hd : h d = some (.inl (gT K 1, C, .inl (sbD t n)))) (hdo : gOld K d = none) (hC : C < 2 ^ 20) (h0 : 1000 ≤ x) (h1 : x < 10000) (hnC : n + 4 ≤ C) : gCt K yJ20_getChars w_J20_getChars 0 0 0 0 h [.int (nI x), .int (nI (n + 4)), .ref d] (pR (.int (nI n)) (gu h d (.inl (gT K 1, C, .inl (sbD (qPut t n (qDg x)) (n + (qDg x).length)))))) := by
  refine g_meth pf_J20_getChars (nle rfl) (fun p e s m args below meth c F hnm htb => ?_)
  have F : gFix K p s m args meth c cJ20_getChars 7 RJ20 (some .int) := F
  refine g_eql (lv' := [(0, .int (nI x)), (1, .int (nI (n + 4))), (2, .ref d)]) rfl ?_
  obtain ⟨hDa, hDb⟩ := hD
  have hN1 : gAd K 201 ≠ d := fun z => by rw [z, hdo] at hDa; cases hDa
  have hN2 : gAd K 202 ≠ d := fun z => by rw [z, hdo] at hDb; cases hDb
  refine g_old hDa (fun hD1 => ?_)
  refine g_old hDb (fun hD2 => ?_)
  refine g_iload_n F dJ20_getChars_0 1 rfl rfl ?_
  refine g_istore (lv' := [(5, .int (nI (n + 4))), (0, .int (nI x)), (1, .int (nI (n + 4))), (2, .ref d)]) F dJ20_getChars_1 (by decide) rfl ?_
  refine g_iload_n F dJ20_getChars_3 1 rfl rfl ?_
  refine g_if_ge (tgt := 11) F dJ20_getChars_4 (by decide) (fun c1 => ?_) (fun c1 => absurd c1 ((fun z => z (nI_pos' (by omega)))))
  refine g_iconst (v := 0) F dJ20_getChars_11 rfl ?_
  refine g_istore (lv' := [(6, .int 0), (5, .int (nI (n + 4))), (0, .int (nI x)), (1, .int (nI (n + 4))), (2, .ref d)]) F dJ20_getChars_12 (by decide) rfl ?_
  refine g_iload F dJ20_getChars_14 0 rfl ?_
  refine g_if_ne (tgt := 22) F dJ20_getChars_16 (by decide) (fun c2 => absurd c2 (by decide)) (fun c2 => ?_)
  refine g_iload_n F dJ20_getChars_19 2 rfl rfl ?_
  refine g_ineg F dJ20_getChars_20 ?_
  refine g_istore_n (lv' := [(0, .int (-(nI x))), (6, .int 0), (5, .int (nI (n + 4))), (1, .int (nI (n + 4))), (2, .ref d)]) F dJ20_getChars_21 rfl (by decide) rfl ?_
  refine g_iload_n F dJ20_getChars_22 0 rfl rfl ?_
  refine g_bipush (v := (-100)) F dJ20_getChars_23 rfl ?_
  refine g_icmp_gt (tgt := 72) F dJ20_getChars_25 (by decide) (fun c3 => absurd c3 ((fun z => absurd ((ng_lt (x := 100) (y := x) (by decide) (by omega)).mp z) (by omega)))) (fun c3 => ?_)
  refine g_iload_n F dJ20_getChars_28 0 rfl rfl ?_
  refine g_bipush (v := 100) F dJ20_getChars_29 rfl ?_
  refine g_idiv F dJ20_getChars_31 (by decide) ?_
  refine g_eqs (st' := [.int (-(nI (x / 100)))]) (by rw [ng_div (by omega)]) ?_
  refine g_istore_n (lv' := [(3, .int (-(nI (x / 100)))), (0, .int (-(nI x))), (6, .int 0), (5, .int (nI (n + 4))), (1, .int (nI (n + 4))), (2, .ref d)]) F dJ20_getChars_32 rfl (by decide) rfl ?_
  refine g_iload_n F dJ20_getChars_33 0 rfl rfl ?_
  refine g_bipush (v := 100) F dJ20_getChars_34 rfl ?_
  refine g_imul F dJ20_getChars_36 ?_
  refine g_iload_n F dJ20_getChars_37 1 rfl rfl ?_
  refine g_isub F dJ20_getChars_38 ?_
  refine g_eqs (st' := [.int (nI (x % 100))]) (by rw [ng_rem (by omega)]) ?_
  refine g_istore (lv' := [(4, .int (nI (x % 100))), (3, .int (-(nI (x / 100)))), (0, .int (-(nI x))), (6, .int 0), (5, .int (nI (n + 4))), (1, .int (nI (n + 4))), (2, .ref d)]) F dJ20_getChars_39 (by decide) rfl ?_
  refine g_iload_n F dJ20_getChars_41 1 rfl rfl ?_
  refine g_istore_n (lv' := [(0, .int (-(nI (x / 100)))), (4, .int (nI (x % 100))), (3, .int (-(nI (x / 100)))), (6, .int 0), (5, .int (nI (n + 4))), (1, .int (nI (n + 4))), (2, .ref d)]) F dJ20_getChars_42 rfl (by decide) rfl ?_
  refine g_aload_n F dJ20_getChars_43 6 rfl rfl ?_
  refine g_iinc (lv' := [(5, .int ((nI (n + 4)) + (-1))), (0, .int (-(nI (x / 100)))), (4, .int (nI (x % 100))), (3, .int (-(nI (x / 100)))), (6, .int 0), (1, .int (nI (n + 4))), (2, .ref d)]) (v := (nI (n + 4)) + (-1)) F dJ20_getChars_44 (k := 4) rfl rfl (by decide) rfl ?_
  refine g_eql (lv' := [(5, .int (nI (n + 3))), (0, .int (-(nI (x / 100)))), (4, .int (nI (x % 100))), (3, .int (-(nI (x / 100)))), (6, .int 0), (1, .int (nI (n + 4))), (2, .ref d)]) (by rw [show nI (n + 4) + (-1) = nI (n + 3) from pk_m1 (n + 3)]) ?_
  refine g_iload F dJ20_getChars_47 0 rfl ?_
  refine g_gets F (gZs_1 K) q943 (fun _ h9 => h9) dJ20_getChars_49 ?_
  refine g_iload F dJ20_getChars_52 2 rfl ?_
  refine g_baldN (i := x % 100) F hD1 rfl rfl (by omega) (by decide) dJ20_getChars_54 ?_
  refine g_bastN (i := n + 3) (z := dO (x % 100)) F hd hdo rfl rfl (by omega) (by omega) dJ20_getChars_55 (nar_dO (by omega)) (fun h_4 e5 => ?_)
  have f6 := gu_t e5 hD1 hN1
  have f7 := gu_t e5 hD2 hN2
  have f8 := gu_a e5
  refine g_aload_n F dJ20_getChars_56 6 rfl rfl ?_
  refine g_iinc (lv' := [(5, .int ((nI (n + 3)) + (-1))), (0, .int (-(nI (x / 100)))), (4, .int (nI (x % 100))), (3, .int (-(nI (x / 100)))), (6, .int 0), (1, .int (nI (n + 4))), (2, .ref d)]) (v := (nI (n + 3)) + (-1)) F dJ20_getChars_57 (k := 0) rfl rfl (by decide) rfl ?_
  refine g_eql (lv' := [(5, .int (nI (n + 2))), (0, .int (-(nI (x / 100)))), (4, .int (nI (x % 100))), (3, .int (-(nI (x / 100)))), (6, .int 0), (1, .int (nI (n + 4))), (2, .ref d)]) (by rw [show nI (n + 3) + (-1) = nI (n + 2) from pk_m1 (n + 2)]) ?_
  refine g_iload F dJ20_getChars_60 0 rfl ?_
  refine g_gets F (gZs_2 K) q945 (fun _ h9 => h9) dJ20_getChars_62 ?_
  refine g_iload F dJ20_getChars_65 2 rfl ?_
  refine g_baldN (i := x % 100) F f7 rfl rfl (by omega) (by decide) dJ20_getChars_67 ?_
  refine g_bastN (i := n + 2) (z := dT (x % 100)) F f8 hdo rfl rfl (by omega) (by omega) dJ20_getChars_68 (nar_dT (by omega)) (fun h_9 e10 => ?_)
  have f11 := gu_t e10 f6 hN1
  have f12 := gu_t e10 f7 hN2
  have f13 := gu_a e10
  refine g_goto (tgt := 22) F dJ20_getChars_69 (by decide) ?_
  refine g_iload_n F dJ20_getChars_22 1 rfl rfl ?_
  refine g_bipush (v := (-100)) F dJ20_getChars_23 rfl ?_
  refine g_icmp_gt (tgt := 72) F dJ20_getChars_25 (by decide) (fun c14 => ?_) (fun c14 => absurd c14 ((fun z => z ((ng_lt (x := 100) (y := x / 100) (by decide) (by omega)).mpr (by omega)))))
  refine g_aload_n F dJ20_getChars_72 6 rfl rfl ?_
  refine g_iinc (lv' := [(5, .int ((nI (n + 2)) + (-1))), (0, .int (-(nI (x / 100)))), (4, .int (nI (x % 100))), (3, .int (-(nI (x / 100)))), (6, .int 0), (1, .int (nI (n + 4))), (2, .ref d)]) (v := (nI (n + 2)) + (-1)) F dJ20_getChars_73 (k := 0) rfl rfl (by decide) rfl ?_
  refine g_eql (lv' := [(5, .int (nI (n + 1))), (0, .int (-(nI (x / 100)))), (4, .int (nI (x % 100))), (3, .int (-(nI (x / 100)))), (6, .int 0), (1, .int (nI (n + 4))), (2, .ref d)]) (by rw [show nI (n + 2) + (-1) = nI (n + 1) from pk_m1 (n + 1)]) ?_
  refine g_iload F dJ20_getChars_76 0 rfl ?_
  refine g_gets F (gZs_1 K) q943 (fun _ h9 => h9) dJ20_getChars_78 ?_
  refine g_iload_n F dJ20_getChars_81 1 rfl rfl ?_
  refine g_ineg F dJ20_getChars_82 ?_
  refine g_baldN (i := x / 100) F f11 ng_ng rfl (by omega) (by decide) dJ20_getChars_83 ?_
  refine g_bastN (i := n + 1) (z := dO (x / 100)) F f13 hdo rfl rfl (by omega) (by omega) dJ20_getChars_84 (nar_dO (by omega)) (fun h_15 e16 => ?_)
  have f17 := gu_t e16 f11 hN1
  have f18 := gu_t e16 f12 hN2
  have f19 := gu_a e16
  refine g_iload_n F dJ20_getChars_85 1 rfl rfl ?_
  refine g_bipush (v := (-9)) F dJ20_getChars_86 rfl ?_
  refine g_icmp_ge (tgt := 104) F dJ20_getChars_88 (by decide) (fun c20 => absurd c20 ((fun z => absurd ((ng_le (x := 9) (y := x / 100) (by decide) (by omega)).mp z) (by omega)))) (fun c20 => ?_)
  refine g_aload_n F dJ20_getChars_91 6 rfl rfl ?_
  refine g_iinc (lv' := [(5, .int ((nI (n + 1)) + (-1))), (0, .int (-(nI (x / 100)))), (4, .int (nI (x % 100))), (3, .int (-(nI (x / 100)))), (6, .int 0), (1, .int (nI (n + 4))), (2, .ref d)]) (v := (nI (n + 1)) + (-1)) F dJ20_getChars_92 (k := 0) rfl rfl (by decide) rfl ?_
  refine g_eql (lv' := [(5, .int (nI n)), (0, .int (-(nI (x / 100)))), (4, .int (nI (x % 100))), (3, .int (-(nI (x / 100)))), (6, .int 0), (1, .int (nI (n + 4))), (2, .ref d)]) (by rw [show nI (n + 1) + (-1) = nI (n) from pk_m1 (n)]) ?_
  refine g_iload F dJ20_getChars_95 0 rfl ?_
  refine g_gets F (gZs_2 K) q945 (fun _ h9 => h9) dJ20_getChars_97 ?_
  refine g_iload_n F dJ20_getChars_100 1 rfl rfl ?_
  refine g_ineg F dJ20_getChars_101 ?_
  refine g_baldN (i := x / 100) F f18 ng_ng rfl (by omega) (by decide) dJ20_getChars_102 ?_
  refine g_bastN (i := n) (z := dT (x / 100)) F f19 hdo rfl rfl (by omega) (by omega) dJ20_getChars_103 (nar_dT (by omega)) (fun h_21 e22 => ?_)
  have f23 := gu_t e22 f17 hN1
  have f24 := gu_t e22 f18 hN2
  have f25 := gu_a e22
  refine g_iload F dJ20_getChars_104 4 rfl ?_
  refine g_if_eq (tgt := 118) F dJ20_getChars_106 (by decide) (fun c26 => ?_) (fun c26 => absurd c26 (by decide))
  refine g_iload F dJ20_getChars_118 0 rfl ?_
  exact g_iret F dJ20_getChars_120 (⟨rfl, by rw [e22, e16, e10, e5, gu_gu, gu_gu, gu_gu, dg_4 (by omega) (by omega)]⟩)
set_option maxHeartbeats 4000000 in
set_option maxRecDepth 100000 in
theorem ct_J20_getChars3 {K : gK} {h : AH} {d n C x : Nat} {t : Nat → Int32} (hD : gKD K) (hd : h d = some (.inl (gT K 1, C, .inl (sbD t n)))) (hdo : gOld K d = none) (hC : C < 2 ^ 20) (h0 : 100 ≤ x) (h1 : x < 1000) (hnC : n + 3 ≤ C) : gCt K yJ20_getChars w_J20_getChars 0 0 0 0 h [.int (nI x), .int (nI (n + 3)), .ref d] (pR (.int (nI n)) (gu h d (.inl (gT K 1, C, .inl (sbD (qPut t n (qDg x)) (n + (qDg x).length)))))) := by
  refine g_meth pf_J20_getChars (nle rfl) (fun p e s m args below meth c F hnm htb => ?_)
  have F : gFix K p s m args meth c cJ20_getChars 7 RJ20 (some .int) := F
  refine g_eql (lv' := [(0, .int (nI x)), (1, .int (nI (n + 3))), (2, .ref d)]) rfl ?_
  obtain ⟨hDa, hDb⟩ := hD
  have hN1 : gAd K 201 ≠ d := fun z => by rw [z, hdo] at hDa; cases hDa
  have hN2 : gAd K 202 ≠ d := fun z => by rw [z, hdo] at hDb; cases hDb
  refine g_old hDa (fun hD1 => ?_)
  refine g_old hDb (fun hD2 => ?_)
  refine g_iload_n F dJ20_getChars_0 1 rfl rfl ?_
  refine g_istore (lv' := [(5, .int (nI (n + 3))), (0, .int (nI x)), (1, .int (nI (n + 3))), (2, .ref d)]) F dJ20_getChars_1 (by decide) rfl ?_
  refine g_iload_n F dJ20_getChars_3 1 rfl rfl ?_
  refine g_if_ge (tgt := 11) F dJ20_getChars_4 (by decide) (fun c1 => ?_) (fun c1 => absurd c1 ((fun z => z (nI_pos' (by omega)))))
  refine g_iconst (v := 0) F dJ20_getChars_11 rfl ?_
  refine g_istore (lv' := [(6, .int 0), (5, .int (nI (n + 3))), (0, .int (nI x)), (1, .int (nI (n + 3))), (2, .ref d)]) F dJ20_getChars_12 (by decide) rfl ?_
  refine g_iload F dJ20_getChars_14 0 rfl ?_
  refine g_if_ne (tgt := 22) F dJ20_getChars_16 (by decide) (fun c2 => absurd c2 (by decide)) (fun c2 => ?_)
  refine g_iload_n F dJ20_getChars_19 2 rfl rfl ?_
  refine g_ineg F dJ20_getChars_20 ?_
  refine g_istore_n (lv' := [(0, .int (-(nI x))), (6, .int 0), (5, .int (nI (n + 3))), (1, .int (nI (n + 3))), (2, .ref d)]) F dJ20_getChars_21 rfl (by decide) rfl ?_
  refine g_iload_n F dJ20_getChars_22 0 rfl rfl ?_
  refine g_bipush (v := (-100)) F dJ20_getChars_23 rfl ?_
  refine g_icmp_gt (tgt := 72) F dJ20_getChars_25 (by decide) (fun c3 => absurd c3 ((fun z => absurd ((ng_lt (x := 100) (y := x) (by decide) (by omega)).mp z) (by omega)))) (fun c3 => ?_)
  refine g_iload_n F dJ20_getChars_28 0 rfl rfl ?_
  refine g_bipush (v := 100) F dJ20_getChars_29 rfl ?_
  refine g_idiv F dJ20_getChars_31 (by decide) ?_
  refine g_eqs (st' := [.int (-(nI (x / 100)))]) (by rw [ng_div (by omega)]) ?_
  refine g_istore_n (lv' := [(3, .int (-(nI (x / 100)))), (0, .int (-(nI x))), (6, .int 0), (5, .int (nI (n + 3))), (1, .int (nI (n + 3))), (2, .ref d)]) F dJ20_getChars_32 rfl (by decide) rfl ?_
  refine g_iload_n F dJ20_getChars_33 0 rfl rfl ?_
  refine g_bipush (v := 100) F dJ20_getChars_34 rfl ?_
  refine g_imul F dJ20_getChars_36 ?_
  refine g_iload_n F dJ20_getChars_37 1 rfl rfl ?_
  refine g_isub F dJ20_getChars_38 ?_
  refine g_eqs (st' := [.int (nI (x % 100))]) (by rw [ng_rem (by omega)]) ?_
  refine g_istore (lv' := [(4, .int (nI (x % 100))), (3, .int (-(nI (x / 100)))), (0, .int (-(nI x))), (6, .int 0), (5, .int (nI (n + 3))), (1, .int (nI (n + 3))), (2, .ref d)]) F dJ20_getChars_39 (by decide) rfl ?_
  refine g_iload_n F dJ20_getChars_41 1 rfl rfl ?_
  refine g_istore_n (lv' := [(0, .int (-(nI (x / 100)))), (4, .int (nI (x % 100))), (3, .int (-(nI (x / 100)))), (6, .int 0), (5, .int (nI (n + 3))), (1, .int (nI (n + 3))), (2, .ref d)]) F dJ20_getChars_42 rfl (by decide) rfl ?_
  refine g_aload_n F dJ20_getChars_43 6 rfl rfl ?_
  refine g_iinc (lv' := [(5, .int ((nI (n + 3)) + (-1))), (0, .int (-(nI (x / 100)))), (4, .int (nI (x % 100))), (3, .int (-(nI (x / 100)))), (6, .int 0), (1, .int (nI (n + 3))), (2, .ref d)]) (v := (nI (n + 3)) + (-1)) F dJ20_getChars_44 (k := 4) rfl rfl (by decide) rfl ?_
  refine g_eql (lv' := [(5, .int (nI (n + 2))), (0, .int (-(nI (x / 100)))), (4, .int (nI (x % 100))), (3, .int (-(nI (x / 100)))), (6, .int 0), (1, .int (nI (n + 3))), (2, .ref d)]) (by rw [show nI (n + 3) + (-1) = nI (n + 2) from pk_m1 (n + 2)]) ?_
  refine g_iload F dJ20_getChars_47 0 rfl ?_
  refine g_gets F (gZs_1 K) q943 (fun _ h9 => h9) dJ20_getChars_49 ?_
  refine g_iload F dJ20_getChars_52 2 rfl ?_
  refine g_baldN (i := x % 100) F hD1 rfl rfl (by omega) (by decide) dJ20_getChars_54 ?_
  refine g_bastN (i := n + 2) (z := dO (x % 100)) F hd hdo rfl rfl (by omega) (by omega) dJ20_getChars_55 (nar_dO (by omega)) (fun h_4 e5 => ?_)
  have f6 := gu_t e5 hD1 hN1
  have f7 := gu_t e5 hD2 hN2
  have f8 := gu_a e5
  refine g_aload_n F dJ20_getChars_56 6 rfl rfl ?_
  refine g_iinc (lv' := [(5, .int ((nI (n + 2)) + (-1))), (0, .int (-(nI (x / 100)))), (4, .int (nI (x % 100))), (3, .int (-(nI (x / 100)))), (6, .int 0), (1, .int (nI (n + 3))), (2, .ref d)]) (v := (nI (n + 2)) + (-1)) F dJ20_getChars_57 (k := 0) rfl rfl (by decide) rfl ?_
  refine g_eql (lv' := [(5, .int (nI (n + 1))), (0, .int (-(nI (x / 100)))), (4, .int (nI (x % 100))), (3, .int (-(nI (x / 100)))), (6, .int 0), (1, .int (nI (n + 3))), (2, .ref d)]) (by rw [show nI (n + 2) + (-1) = nI (n + 1) from pk_m1 (n + 1)]) ?_
  refine g_iload F dJ20_getChars_60 0 rfl ?_
  refine g_gets F (gZs_2 K) q945 (fun _ h9 => h9) dJ20_getChars_62 ?_
  refine g_iload F dJ20_getChars_65 2 rfl ?_
  refine g_baldN (i := x % 100) F f7 rfl rfl (by omega) (by decide) dJ20_getChars_67 ?_
  refine g_bastN (i := n + 1) (z := dT (x % 100)) F f8 hdo rfl rfl (by omega) (by omega) dJ20_getChars_68 (nar_dT (by omega)) (fun h_9 e10 => ?_)
  have f11 := gu_t e10 f6 hN1
  have f12 := gu_t e10 f7 hN2
  have f13 := gu_a e10
  refine g_goto (tgt := 22) F dJ20_getChars_69 (by decide) ?_
  refine g_iload_n F dJ20_getChars_22 1 rfl rfl ?_
  refine g_bipush (v := (-100)) F dJ20_getChars_23 rfl ?_
  refine g_icmp_gt (tgt := 72) F dJ20_getChars_25 (by decide) (fun c14 => ?_) (fun c14 => absurd c14 ((fun z => z ((ng_lt (x := 100) (y := x / 100) (by decide) (by omega)).mpr (by omega)))))
  refine g_aload_n F dJ20_getChars_72 6 rfl rfl ?_
  refine g_iinc (lv' := [(5, .int ((nI (n + 1)) + (-1))), (0, .int (-(nI (x / 100)))), (4, .int (nI (x % 100))), (3, .int (-(nI (x / 100)))), (6, .int 0), (1, .int (nI (n + 3))), (2, .ref d)]) (v := (nI (n + 1)) + (-1)) F dJ20_getChars_73 (k := 0) rfl rfl (by decide) rfl ?_
  refine g_eql (lv' := [(5, .int (nI n)), (0, .int (-(nI (x / 100)))), (4, .int (nI (x % 100))), (3, .int (-(nI (x / 100)))), (6, .int 0), (1, .int (nI (n + 3))), (2, .ref d)]) (by rw [show nI (n + 1) + (-1) = nI (n) from pk_m1 (n)]) ?_
  refine g_iload F dJ20_getChars_76 0 rfl ?_
  refine g_gets F (gZs_1 K) q943 (fun _ h9 => h9) dJ20_getChars_78 ?_
  refine g_iload_n F dJ20_getChars_81 1 rfl rfl ?_
  refine g_ineg F dJ20_getChars_82 ?_
  refine g_baldN (i := x / 100) F f11 ng_ng rfl (by omega) (by decide) dJ20_getChars_83 ?_
  refine g_bastN (i := n) (z := dO (x / 100)) F f13 hdo rfl rfl (by omega) (by omega) dJ20_getChars_84 (nar_dO (by omega)) (fun h_15 e16 => ?_)
  have f17 := gu_t e16 f11 hN1
  have f18 := gu_t e16 f12 hN2
  have f19 := gu_a e16
  refine g_iload_n F dJ20_getChars_85 1 rfl rfl ?_
  refine g_bipush (v := (-9)) F dJ20_getChars_86 rfl ?_
  refine g_icmp_ge (tgt := 104) F dJ20_getChars_88 (by decide) (fun c20 => ?_) (fun c20 => absurd c20 ((fun z => z ((ng_le (x := 9) (y := x / 100) (by decide) (by omega)).mpr (by omega)))))
  refine g_iload F dJ20_getChars_104 4 rfl ?_
  refine g_if_eq (tgt := 118) F dJ20_getChars_106 (by decide) (fun c21 => ?_) (fun c21 => absurd c21 (by decide))
  refine g_iload F dJ20_getChars_118 0 rfl ?_
  exact g_iret F dJ20_getChars_120 (⟨rfl, by rw [e16, e10, e5, gu_gu, gu_gu, dg_3 (by omega) (by omega)]⟩)
set_option maxHeartbeats 4000000 in
set_option maxRecDepth 100000 in
theorem ct_J20_getChars2 {K : gK} {h : AH} {d n C x : Nat} {t : Nat → Int32} (hD : gKD K) (hd : h d = some (.inl (gT K 1, C, .inl (sbD t n)))) (hdo : gOld K d = none) (hC : C < 2 ^ 20) (h0 : 10 ≤ x) (h1 : x < 100) (hnC : n + 2 ≤ C) : gCt K yJ20_getChars w_J20_getChars 0 0 0 0 h [.int (nI x), .int (nI (n + 2)), .ref d] (pR (.int (nI n)) (gu h d (.inl (gT K 1, C, .inl (sbD (qPut t n (qDg x)) (n + (qDg x).length)))))) := by
  refine g_meth pf_J20_getChars (nle rfl) (fun p e s m args below meth c F hnm htb => ?_)
  have F : gFix K p s m args meth c cJ20_getChars 7 RJ20 (some .int) := F
  refine g_eql (lv' := [(0, .int (nI x)), (1, .int (nI (n + 2))), (2, .ref d)]) rfl ?_
  obtain ⟨hDa, hDb⟩ := hD
  have hN1 : gAd K 201 ≠ d := fun z => by rw [z, hdo] at hDa; cases hDa
  have hN2 : gAd K 202 ≠ d := fun z => by rw [z, hdo] at hDb; cases hDb
  refine g_old hDa (fun hD1 => ?_)
  refine g_old hDb (fun hD2 => ?_)
  refine g_iload_n F dJ20_getChars_0 1 rfl rfl ?_
  refine g_istore (lv' := [(5, .int (nI (n + 2))), (0, .int (nI x)), (1, .int (nI (n + 2))), (2, .ref d)]) F dJ20_getChars_1 (by decide) rfl ?_
  refine g_iload_n F dJ20_getChars_3 1 rfl rfl ?_
  refine g_if_ge (tgt := 11) F dJ20_getChars_4 (by decide) (fun c1 => ?_) (fun c1 => absurd c1 ((fun z => z (nI_pos' (by omega)))))
  refine g_iconst (v := 0) F dJ20_getChars_11 rfl ?_
  refine g_istore (lv' := [(6, .int 0), (5, .int (nI (n + 2))), (0, .int (nI x)), (1, .int (nI (n + 2))), (2, .ref d)]) F dJ20_getChars_12 (by decide) rfl ?_
  refine g_iload F dJ20_getChars_14 0 rfl ?_
  refine g_if_ne (tgt := 22) F dJ20_getChars_16 (by decide) (fun c2 => absurd c2 (by decide)) (fun c2 => ?_)
  refine g_iload_n F dJ20_getChars_19 2 rfl rfl ?_
  refine g_ineg F dJ20_getChars_20 ?_
  refine g_istore_n (lv' := [(0, .int (-(nI x))), (6, .int 0), (5, .int (nI (n + 2))), (1, .int (nI (n + 2))), (2, .ref d)]) F dJ20_getChars_21 rfl (by decide) rfl ?_
  refine g_iload_n F dJ20_getChars_22 0 rfl rfl ?_
  refine g_bipush (v := (-100)) F dJ20_getChars_23 rfl ?_
  refine g_icmp_gt (tgt := 72) F dJ20_getChars_25 (by decide) (fun c3 => ?_) (fun c3 => absurd c3 ((fun z => z ((ng_lt (x := 100) (y := x) (by decide) (by omega)).mpr (by omega)))))
  refine g_aload_n F dJ20_getChars_72 4 rfl rfl ?_
  refine g_iinc (lv' := [(5, .int ((nI (n + 2)) + (-1))), (0, .int (-(nI x))), (6, .int 0), (1, .int (nI (n + 2))), (2, .ref d)]) (v := (nI (n + 2)) + (-1)) F dJ20_getChars_73 (k := 2) rfl rfl (by decide) rfl ?_
  refine g_eql (lv' := [(5, .int (nI (n + 1))), (0, .int (-(nI x))), (6, .int 0), (1, .int (nI (n + 2))), (2, .ref d)]) (by rw [show nI (n + 2) + (-1) = nI (n + 1) from pk_m1 (n + 1)]) ?_
  refine g_iload F dJ20_getChars_76 0 rfl ?_
  refine g_gets F (gZs_1 K) q943 (fun _ h9 => h9) dJ20_getChars_78 ?_
  refine g_iload_n F dJ20_getChars_81 1 rfl rfl ?_
  refine g_ineg F dJ20_getChars_82 ?_
  refine g_baldN (i := x) F hD1 ng_ng rfl (by omega) (by decide) dJ20_getChars_83 ?_
  refine g_bastN (i := n + 1) (z := dO (x)) F hd hdo rfl rfl (by omega) (by omega) dJ20_getChars_84 (nar_dO (by omega)) (fun h_4 e5 => ?_)
  have f6 := gu_t e5 hD1 hN1
  have f7 := gu_t e5 hD2 hN2
  have f8 := gu_a e5
  refine g_iload_n F dJ20_getChars_85 1 rfl rfl ?_
  refine g_bipush (v := (-9)) F dJ20_getChars_86 rfl ?_
  refine g_icmp_ge (tgt := 104) F dJ20_getChars_88 (by decide) (fun c9 => absurd c9 ((fun z => absurd ((ng_le (x := 9) (y := x) (by decide) (by omega)).mp z) (by omega)))) (fun c9 => ?_)
  refine g_aload_n F dJ20_getChars_91 4 rfl rfl ?_
  refine g_iinc (lv' := [(5, .int ((nI (n + 1)) + (-1))), (0, .int (-(nI x))), (6, .int 0), (1, .int (nI (n + 2))), (2, .ref d)]) (v := (nI (n + 1)) + (-1)) F dJ20_getChars_92 (k := 0) rfl rfl (by decide) rfl ?_
  refine g_eql (lv' := [(5, .int (nI n)), (0, .int (-(nI x))), (6, .int 0), (1, .int (nI (n + 2))), (2, .ref d)]) (by rw [show nI (n + 1) + (-1) = nI (n) from pk_m1 (n)]) ?_
  refine g_iload F dJ20_getChars_95 0 rfl ?_
  refine g_gets F (gZs_2 K) q945 (fun _ h9 => h9) dJ20_getChars_97 ?_
  refine g_iload_n F dJ20_getChars_100 1 rfl rfl ?_
  refine g_ineg F dJ20_getChars_101 ?_
  refine g_baldN (i := x) F f7 ng_ng rfl (by omega) (by decide) dJ20_getChars_102 ?_
  refine g_bastN (i := n) (z := dT (x)) F f8 hdo rfl rfl (by omega) (by omega) dJ20_getChars_103 (nar_dT (by omega)) (fun h_10 e11 => ?_)
  have f12 := gu_t e11 f6 hN1
  have f13 := gu_t e11 f7 hN2
  have f14 := gu_a e11
  refine g_iload F dJ20_getChars_104 2 rfl ?_
  refine g_if_eq (tgt := 118) F dJ20_getChars_106 (by decide) (fun c15 => ?_) (fun c15 => absurd c15 (by decide))
  refine g_iload F dJ20_getChars_118 0 rfl ?_
  exact g_iret F dJ20_getChars_120 (⟨rfl, by rw [e11, e5, gu_gu, dg_2 (by omega) (by omega)]⟩)
set_option maxHeartbeats 4000000 in
set_option maxRecDepth 100000 in
theorem ct_J20_getChars1 {K : gK} {h : AH} {d n C x : Nat} {t : Nat → Int32} (hD : gKD K) (hd : h d = some (.inl (gT K 1, C, .inl (sbD t n)))) (hdo : gOld K d = none) (hC : C < 2 ^ 20) (h0 : 0 ≤ x) (h1 : x < 10) (hnC : n + 1 ≤ C) : gCt K yJ20_getChars w_J20_getChars 0 0 0 0 h [.int (nI x), .int (nI (n + 1)), .ref d] (pR (.int (nI n)) (gu h d (.inl (gT K 1, C, .inl (sbD (qPut t n (qDg x)) (n + (qDg x).length)))))) := by
  refine g_meth pf_J20_getChars (nle rfl) (fun p e s m args below meth c F hnm htb => ?_)
  have F : gFix K p s m args meth c cJ20_getChars 7 RJ20 (some .int) := F
  refine g_eql (lv' := [(0, .int (nI x)), (1, .int (nI (n + 1))), (2, .ref d)]) rfl ?_
  obtain ⟨hDa, hDb⟩ := hD
  have hN1 : gAd K 201 ≠ d := fun z => by rw [z, hdo] at hDa; cases hDa
  have hN2 : gAd K 202 ≠ d := fun z => by rw [z, hdo] at hDb; cases hDb
  refine g_old hDa (fun hD1 => ?_)
  refine g_old hDb (fun hD2 => ?_)
  refine g_iload_n F dJ20_getChars_0 1 rfl rfl ?_
  refine g_istore (lv' := [(5, .int (nI (n + 1))), (0, .int (nI x)), (1, .int (nI (n + 1))), (2, .ref d)]) F dJ20_getChars_1 (by decide) rfl ?_
  refine g_iload_n F dJ20_getChars_3 1 rfl rfl ?_
  refine g_if_ge (tgt := 11) F dJ20_getChars_4 (by decide) (fun c1 => ?_) (fun c1 => absurd c1 ((fun z => z (nI_pos' (by omega)))))
  refine g_iconst (v := 0) F dJ20_getChars_11 rfl ?_
  refine g_istore (lv' := [(6, .int 0), (5, .int (nI (n + 1))), (0, .int (nI x)), (1, .int (nI (n + 1))), (2, .ref d)]) F dJ20_getChars_12 (by decide) rfl ?_
  refine g_iload F dJ20_getChars_14 0 rfl ?_
  refine g_if_ne (tgt := 22) F dJ20_getChars_16 (by decide) (fun c2 => absurd c2 (by decide)) (fun c2 => ?_)
  refine g_iload_n F dJ20_getChars_19 2 rfl rfl ?_
  refine g_ineg F dJ20_getChars_20 ?_
  refine g_istore_n (lv' := [(0, .int (-(nI x))), (6, .int 0), (5, .int (nI (n + 1))), (1, .int (nI (n + 1))), (2, .ref d)]) F dJ20_getChars_21 rfl (by decide) rfl ?_
  refine g_iload_n F dJ20_getChars_22 0 rfl rfl ?_
  refine g_bipush (v := (-100)) F dJ20_getChars_23 rfl ?_
  refine g_icmp_gt (tgt := 72) F dJ20_getChars_25 (by decide) (fun c3 => ?_) (fun c3 => absurd c3 ((fun z => z ((ng_lt (x := 100) (y := x) (by decide) (by omega)).mpr (by omega)))))
  refine g_aload_n F dJ20_getChars_72 4 rfl rfl ?_
  refine g_iinc (lv' := [(5, .int ((nI (n + 1)) + (-1))), (0, .int (-(nI x))), (6, .int 0), (1, .int (nI (n + 1))), (2, .ref d)]) (v := (nI (n + 1)) + (-1)) F dJ20_getChars_73 (k := 2) rfl rfl (by decide) rfl ?_
  refine g_eql (lv' := [(5, .int (nI n)), (0, .int (-(nI x))), (6, .int 0), (1, .int (nI (n + 1))), (2, .ref d)]) (by rw [show nI (n + 1) + (-1) = nI (n) from pk_m1 (n)]) ?_
  refine g_iload F dJ20_getChars_76 0 rfl ?_
  refine g_gets F (gZs_1 K) q943 (fun _ h9 => h9) dJ20_getChars_78 ?_
  refine g_iload_n F dJ20_getChars_81 1 rfl rfl ?_
  refine g_ineg F dJ20_getChars_82 ?_
  refine g_baldN (i := x) F hD1 ng_ng rfl (by omega) (by decide) dJ20_getChars_83 ?_
  refine g_bastN (i := n) (z := dO (x)) F hd hdo rfl rfl (by omega) (by omega) dJ20_getChars_84 (nar_dO (by omega)) (fun h_4 e5 => ?_)
  have f6 := gu_t e5 hD1 hN1
  have f7 := gu_t e5 hD2 hN2
  have f8 := gu_a e5
  refine g_iload_n F dJ20_getChars_85 1 rfl rfl ?_
  refine g_bipush (v := (-9)) F dJ20_getChars_86 rfl ?_
  refine g_icmp_ge (tgt := 104) F dJ20_getChars_88 (by decide) (fun c9 => ?_) (fun c9 => absurd c9 ((fun z => z ((ng_le (x := 9) (y := x) (by decide) (by omega)).mpr (by omega)))))
  refine g_iload F dJ20_getChars_104 2 rfl ?_
  refine g_if_eq (tgt := 118) F dJ20_getChars_106 (by decide) (fun c10 => ?_) (fun c10 => absurd c10 (by decide))
  refine g_iload F dJ20_getChars_118 0 rfl ?_
  exact g_iret F dJ20_getChars_120 (⟨rfl, by rw [e5, dg_1 (by omega)]⟩)
theorem ct_J20_getChars {K : gK} {h : AH} {d n C x : Nat} {t : Nat → Int32} (hD : gKD K) (hd : h d = some (.inl (gT K 1, C, .inl (sbD t n)))) (hdo : gOld K d = none) (hC : C < 2 ^ 20) (hx : x < 10000) (hnC : n + (qDg x).length ≤ C) : gCt K yJ20_getChars w_J20_getChars 0 0 0 0 h [.int (nI x), .int (nI (n + (qDg x).length)), .ref d] (pR (.int (nI n)) (gu h d (.inl (gT K 1, C, .inl (sbD (qPut t n (qDg x)) (n + (qDg x).length)))))) := by
  by_cases a : x < 10
  · have e := dg_l1 a
    rw [e] at hnC
    have := ct_J20_getChars1 hD hd hdo hC (Nat.zero_le _) a hnC
    rw [e] at this ⊢
    exact this
  · by_cases b : x < 100
    · have e := dg_l2 (Nat.le_of_not_lt a) b
      rw [e] at hnC
      have := ct_J20_getChars2 hD hd hdo hC (Nat.le_of_not_lt a) b hnC
      rw [e] at this ⊢
      exact this
    · by_cases c : x < 1000
      · have e := dg_l3 (Nat.le_of_not_lt b) c
        rw [e] at hnC
        have := ct_J20_getChars3 hD hd hdo hC (Nat.le_of_not_lt b) c hnC
        rw [e] at this ⊢
        exact this
      · have e := dg_l4 (Nat.le_of_not_lt c)
        rw [e] at hnC
        have := ct_J20_getChars4 hD hd hdo hC (Nat.le_of_not_lt c) hx hnC
        rw [e] at this ⊢
        exact this
set_option maxHeartbeats 4000000 in
set_option maxRecDepth 100000 in
theorem ct_J4_append_2 {K : gK} {h : AH} {a d n x : Nat} {t : Nat → Int32} (hs : sbO K h a d t n) (hD : gKD K) (hx : x < 10000) (hm2 : n + (qDg x).length ≤ 140) : gCt K yJ4_append_2 w_J4_append_2 4 91 1 300 h [.ref a, .int (nI x)] (pO (fun r h9 => r = some (.ref a) ∧ ∃ d9, sbO K h9 a d9 (qPut t n (qDg x)) (n + (qDg x).length) ∧ sbF h h9 a d d9)) := by
  refine g_meth pf_J4_append_2 (nle rfl) (fun p e s m args below meth c F hnm htb => ?_)
  have F : gFix K p s m args meth c cJ4_append_2 4 RJ4 (some (.object "java/lang/AbstractStringBuilder")) := F
  refine g_eql (lv' := [(0, .ref a), (1, .int (nI x))]) rfl ?_
  obtain ⟨C, hs⟩ := hs
  have hs9 := hs
  obtain ⟨ha, hao, hdo, hd, hnC, hC2, hcc⟩ := hs
  refine g_aload_n F dJ4_append_2_0 0 rfl rfl ?_
  refine gf_J4_79_J5 (v := .int (nI n)) F dJ4_append_2_1 ha rfl ?_
  refine g_istore_n (lv' := [(2, .int (nI n)), (0, .ref a), (1, .int (nI x))]) F dJ4_append_2_4 rfl (by decide) rfl ?_
  refine g_iload_n F dJ4_append_2_5 0 rfl rfl ?_
  refine g_iload_n F dJ4_append_2_6 2 rfl rfl ?_
  refine g_callS F dJ4_append_2_7 mi_J20_stringSize q937 q938 (ct_J20_stringSize hx) rfl rfl (nle rfl) (nle rfl) (nle rfl) (g_pur ?_) g_purX
  refine g_iadd F dJ4_append_2_10 ?_
  refine g_eqs (st' := [.int (nI (n + (qDg x).length))]) (by rw [nI_add]) ?_
  refine g_istore_n (lv' := [(3, .int (nI (n + (qDg x).length))), (2, .int (nI n)), (0, .ref a), (1, .int (nI x))]) F dJ4_append_2_11 rfl (by decide) rfl ?_
  refine g_aload_n F dJ4_append_2_12 2 rfl rfl ?_
  refine g_iload_n F dJ4_append_2_13 0 rfl rfl ?_
  refine g_callVP (b := 0) (bs := 0) F dJ4_append_2_14 mi_J4_ensureCapacityInternal q836 q838 q837 q2694 gc_J5 ha (ct_J4_ensureCapacityInternal (m0 := (n + (qDg x).length)) hs9 (by omega) (by omega)) rfl rfl (nle rfl) (nle rfl) (nle rfl) (g_pO (fun v8 h_9 p10 => ?_)) g_pOX
  obtain ⟨rfl, d1, C1, ha1, hdo1, hd1, hm1, hC1, hF1⟩ := p10
  refine g_eqs (st' := []) rfl ?_
  refine g_aload_n F dJ4_append_2_17 2 rfl rfl ?_
  refine g_callV F dJ4_append_2_18 mi_J4_isLatin1 q856 q857 q859 gc_J5 ha1 (ct_J4_isLatin1 ha1) rfl rfl (nle rfl) (nle rfl) (nle rfl) (g_pur ?_) g_purX
  refine g_if_eq (tgt := 37) F dJ4_append_2_21 (by decide) (fun c22 => absurd c22 (by decide)) (fun c22 => ?_)
  refine g_iload_n F dJ4_append_2_24 3 rfl rfl ?_
  refine g_iload_n F dJ4_append_2_25 0 rfl rfl ?_
  refine g_aload_n F dJ4_append_2_26 2 rfl rfl ?_
  refine gf_J4_15_J5 (v := .ref d1) F dJ4_append_2_27 ha1 rfl ?_
  refine g_callS F dJ4_append_2_30 mi_J20_getChars q940 q941 (ct_J20_getChars hD hd1 hdo1 (by omega) hx hm1) rfl rfl (nle rfl) (nle rfl) (nle rfl) (g_pur ?_) g_purX
  refine g_gen (fun h_30 e31 => ?_)
  have f32 := gu_t e31 ha1 (gneA ha1 hd1)
  have f33 := gu_a e31
  refine g_pop F dJ4_append_2_33 rfl ?_
  refine g_goto (tgt := 48) F dJ4_append_2_34 (by decide) ?_
  refine g_aload_n F dJ4_append_2_48 2 rfl rfl ?_
  refine g_iload_n F dJ4_append_2_49 0 rfl rfl ?_
  refine gp_J4_79_J5 (fs' := [.ref d1, .int 0, .int 0, .int (nI (n + (qDg x).length))]) F dJ4_append_2_50 f32 hao (nle rfl) rfl (fun h_34 e35 => ?_)
  have f36 := gu_t e35 f33 (gneB f33 f32)
  have f37 := gu_a e35
  refine g_aload_n F dJ4_append_2_53 2 rfl rfl ?_
  exact g_aret F dJ4_append_2_54 (Or.inl ⟨_, rfl⟩) (Or.inr ⟨_, rfl⟩) (⟨_, rfl, rfl, d1, ⟨C1, f37, hao, hdo1, f36, by omega, by omega, sbC_p hcc (qDg_c hx)⟩, (sbF.wa (sbF.wd hF1 e31) e35)⟩)
set_option maxHeartbeats 4000000 in
set_option maxRecDepth 100000 in
theorem ct_J5_append_2 {K : gK} {h : AH} {a d n x : Nat} {t : Nat → Int32} (hs : sbO K h a d t n) (hD : gKD K) (hx : x < 10000) (hm2 : n + (qDg x).length ≤ 140) : gCt K yJ5_append_2 w_J5_append_2 5 114 1 300 h [.ref a, .int (nI x)] (pO (fun r h9 => r = some (.ref a) ∧ ∃ d9, sbO K h9 a d9 (qPut t n (qDg x)) (n + (qDg x).length) ∧ sbF h h9 a d d9)) := by
  refine g_meth pf_J5_append_2 (nle rfl) (fun p e s m args below meth c F hnm htb => ?_)
  have F : gFix K p s m args meth c cJ5_append_2 2 RJ5 (some (.object "java/lang/StringBuilder")) := F
  refine g_eql (lv' := [(0, .ref a), (1, .int (nI x))]) rfl ?_
  have hs8 := hs
  obtain ⟨C, hs⟩ := hs
  have hs9 := hs
  obtain ⟨ha, hao, hdo, hd, hnC, hC2, hcc⟩ := hs
  refine g_aload_n F dJ5_append_2_0 0 rfl rfl ?_
  refine g_iload_n F dJ5_append_2_1 1 rfl rfl ?_
  refine g_callSU (b := 0) (bs := 0) F dJ5_append_2_2 mi_J4_append_2 (by decide) q934 q2699 q274 q935 gc_J5 ha (ct_J4_append_2 hs8 hD hx hm2) rfl rfl (nle rfl) (nle rfl) (nle rfl) (g_pO (fun v1 h_2 p3 => ?_)) g_pOX
  obtain ⟨rfl, p3⟩ := p3
  refine g_eqs (st' := [.ref a]) rfl ?_
  refine g_pop F dJ5_append_2_5 rfl ?_
  refine g_aload_n F dJ5_append_2_6 0 rfl rfl ?_
  exact g_aret F dJ5_append_2_7 (Or.inl ⟨_, rfl⟩) (Or.inr ⟨_, rfl⟩) (⟨_, rfl, rfl, p3⟩)
set_option maxHeartbeats 4000000 in
set_option maxRecDepth 100000 in
theorem ct_J4_length {K : gK} {h : AH} {a d n : Nat} {t : Nat → Int32} (hs : sbO K h a d t n) : gCt K yJ4_length w_J4_length 0 0 0 0 h [.ref a] (pR (.int (nI n)) h) := by
  refine g_meth pf_J4_length (nle rfl) (fun p e s m args below meth c F hnm htb => ?_)
  have F : gFix K p s m args meth c cJ4_length 1 RJ4 (some .int) := F
  refine g_eql (lv' := [(0, .ref a)]) rfl ?_
  have hs8 := hs
  obtain ⟨C, hs⟩ := hs
  have hs9 := hs
  obtain ⟨ha, hao, hdo, hd, hnC, hC2, hcc⟩ := hs
  refine g_aload_n F dJ4_length_0 0 rfl rfl ?_
  refine gf_J4_79_J5 (v := .int (nI n)) F dJ4_length_1 ha rfl ?_
  exact g_iret F dJ4_length_4 (⟨rfl, rfl⟩)
set_option maxHeartbeats 4000000 in
set_option maxRecDepth 100000 in
theorem ct_J5_length {K : gK} {h : AH} {a d n : Nat} {t : Nat → Int32} (hs : sbO K h a d t n) : gCt K yJ5_length w_J5_length 1 20 0 0 h [.ref a] (pR (.int (nI n)) h) := by
  refine g_meth pf_J5_length (nle rfl) (fun p e s m args below meth c F hnm htb => ?_)
  have F : gFix K p s m args meth c cJ5_length 1 RJ5 (some .int) := F
  refine g_eql (lv' := [(0, .ref a)]) rfl ?_
  have hs8 := hs
  obtain ⟨C, hs⟩ := hs
  have hs9 := hs
  obtain ⟨ha, hao, hdo, hd, hnC, hC2, hcc⟩ := hs
  refine g_aload_n F dJ5_length_0 0 rfl rfl ?_
  refine g_callSU F dJ5_length_1 mi_J4_length (by decide) q980 q976 q274 q975 gc_J5 ha (ct_J4_length hs8) rfl rfl (nle rfl) (nle rfl) (nle rfl) (g_pur ?_) g_purX
  exact g_iret F dJ5_length_4 (⟨rfl, rfl⟩)
theorem sCh_t {t : Nat → Int32} {n i : Nat} (h : sbC t n) (hi : i < n) : sCh (sbD t n i) = t i := by
  obtain ⟨k, hk, e⟩ := h i hi
  rw [sbD_i hi, e, sCh_k hk]
theorem nar_v {k : Nat} (h : k < 128) : narrow .char (.int (nI k)) = .int (nI k) := by
  rw [← sCh_k h]; exact sCh_n
set_option maxHeartbeats 4000000 in
set_option maxRecDepth 100000 in
theorem ct_J4_charAt {K : gK} {h : AH} {a d n i : Nat} {t : Nat → Int32} (hs : sbO K h a d t n) (hi : i < n) (hn : n ≤ 140) : gCt K yJ4_charAt w_J4_charAt 2 43 0 0 h [.ref a, .int (nI i)] (pR (.int (t i)) h) := by
  refine g_meth pf_J4_charAt (nle rfl) (fun p e s m args below meth c F hnm htb => ?_)
  have F : gFix K p s m args meth c cJ4_charAt 5 RJ4 (some .char) := F
  refine g_eql (lv' := [(0, .ref a), (1, .int (nI i))]) rfl ?_
  have hs8 := hs
  obtain ⟨C, hs⟩ := hs
  have hs9 := hs
  obtain ⟨ha, hao, hdo, hd, hnC, hC2, hcc⟩ := hs
  refine g_aload_n F dJ4_charAt_0 0 rfl rfl ?_
  refine gf_J4_22_J5 (v := .int 0) F dJ4_charAt_1 ha rfl ?_
  refine g_istore_n (lv' := [(2, .int 0), (0, .ref a), (1, .int (nI i))]) F dJ4_charAt_4 rfl (by decide) rfl ?_
  refine g_aload_n F dJ4_charAt_5 1 rfl rfl ?_
  refine gf_J4_15_J5 (v := .ref d) F dJ4_charAt_6 ha rfl ?_
  refine g_astore_n (lv' := [(3, .ref d), (2, .int 0), (0, .ref a), (1, .int (nI i))]) F dJ4_charAt_9 rfl (by decide) rfl ?_
  refine g_aload_n F dJ4_charAt_10 2 rfl rfl ?_
  refine gf_J4_79_J5 (v := .int (nI n)) F dJ4_charAt_11 ha rfl ?_
  refine g_aload_n F dJ4_charAt_14 0 rfl rfl ?_
  refine g_alen F (by decide) hd dJ4_charAt_15 ?_
  refine g_iload_n F dJ4_charAt_16 1 rfl rfl ?_
  refine g_ishr F dJ4_charAt_17 ?_
  refine g_eqs (st' := [.int (nI C), .int (nI n)]) (by rw [sShr]) ?_
  refine g_callS F dJ4_charAt_18 mi_J16_min q2145 q714 ct_J16_min rfl rfl (nle rfl) (nle rfl) (nle rfl) (g_pur ?_) g_purX
  refine g_eqs (st' := [.int (nI n)]) (by rw [mMin_N (by omega) (by omega), Nat.min_eq_left hnC]) ?_
  refine g_istore (lv' := [(4, .int (nI n)), (3, .ref d), (2, .int 0), (0, .ref a), (1, .int (nI i))]) F dJ4_charAt_21 (by decide) rfl ?_
  refine g_iload_n F dJ4_charAt_23 4 rfl rfl ?_
  refine g_iload F dJ4_charAt_24 0 rfl ?_
  refine g_callS F dJ4_charAt_26 mi_J6_checkIndex q2146 q1300 (ct_J6_checkIndex rfl hi (by omega)) rfl rfl (nle rfl) (nle rfl) (nle rfl) (g_purv ?_) g_purvX
  refine g_iload_n F dJ4_charAt_29 2 rfl rfl ?_
  refine g_if_ne (tgt := 42) F dJ4_charAt_30 (by decide) (fun c15 => absurd c15 (by decide)) (fun c15 => ?_)
  refine g_aload_n F dJ4_charAt_33 1 rfl rfl ?_
  refine g_iload_n F dJ4_charAt_34 4 rfl rfl ?_
  refine g_baldN (i := i) F hd rfl rfl (by omega) (by omega) dJ4_charAt_35 ?_
  refine g_sipush (v := 255) F dJ4_charAt_36 rfl ?_
  refine g_iand F dJ4_charAt_39 ?_
  refine g_i2c F dJ4_charAt_40 rfl ?_
  exact g_zret F dJ4_charAt_41 sCh_n (⟨congrArg (fun z => (.inl (some (Value.int z)) : gRes)) (sCh_t hcc hi), rfl⟩)
set_option maxHeartbeats 4000000 in
set_option maxRecDepth 100000 in
theorem ct_J5_charAt {K : gK} {h : AH} {a d n i : Nat} {t : Nat → Int32} (hs : sbO K h a d t n) (hi : i < n) (hn : n ≤ 140) : gCt K yJ5_charAt w_J5_charAt 3 67 0 0 h [.ref a, .int (nI i)] (pR (.int (t i)) h) := by
  refine g_meth pf_J5_charAt (nle rfl) (fun p e s m args below meth c F hnm htb => ?_)
  have F : gFix K p s m args meth c cJ5_charAt 2 RJ5 (some .char) := F
  refine g_eql (lv' := [(0, .ref a), (1, .int (nI i))]) rfl ?_
  have hs8 := hs
  obtain ⟨C, hs⟩ := hs
  have hs9 := hs
  obtain ⟨ha, hao, hdo, hd, hnC, hC2, hcc⟩ := hs
  obtain ⟨kc, hkc, hti⟩ := hcc i hi
  refine g_aload_n F dJ5_charAt_0 0 rfl rfl ?_
  refine g_iload_n F dJ5_charAt_1 1 rfl rfl ?_
  refine g_callSU F dJ5_charAt_2 mi_J4_charAt (by decide) q2142 q2702 q274 q2143 gc_J5 ha (ct_J4_charAt hs8 hi hn) rfl rfl (nle rfl) (nle rfl) (nle rfl) (g_pur ?_) g_purX
  exact g_zret F dJ5_charAt_5 (by rw [hti]; exact nar_v hkc) (⟨rfl, rfl⟩)
set_option maxHeartbeats 4000000 in
set_option maxRecDepth 100000 in
theorem ct_J4_getValue {K : gK} {h : AH} {a d n : Nat} (ha : h a = some (.inr (6, [.ref d, .int 0, .int 0, .int (nI n)]))) : gCt K yJ4_getValue w_J4_getValue 0 0 0 0 h [.ref a] (pR (.ref d) h) := by
  refine g_meth pf_J4_getValue (nle rfl) (fun p e s m args below meth c F hnm htb => ?_)
  have F : gFix K p s m args meth c cJ4_getValue 1 RJ4 (some (.array .byte)) := F
  refine g_eql (lv' := [(0, .ref a)]) rfl ?_
  refine g_aload_n F dJ4_getValue_0 0 rfl rfl ?_
  refine gf_J4_15_J5 (v := .ref d) F dJ4_getValue_1 ha rfl ?_
  exact g_aret F dJ4_getValue_4 (Or.inr ⟨_, rfl⟩) (Or.inr ⟨_, rfl⟩) (⟨rfl, rfl⟩)
set_option maxHeartbeats 4000000 in
set_option maxRecDepth 100000 in
theorem ct_J17_checkLength {K : gK} {h : AH} {i j : Nat} (h0 : i ≤ j) (hj : j < 2 ^ 31) : gCt K yJ17_checkLength w_J17_checkLength 0 0 0 0 h [.int (nI i), .int (nI j)] (pV h) := by
  refine g_meth pf_J17_checkLength (nle rfl) (fun p e s m args below meth c F hnm htb => ?_)
  have F : gFix K p s m args meth c cJ17_checkLength 2 RJ17 none := F
  refine g_eql (lv' := [(0, .int (nI i)), (1, .int (nI j))]) rfl ?_
  refine g_iload_n F dJ17_checkLength_0 1 rfl rfl ?_
  refine g_iload_n F dJ17_checkLength_1 0 rfl rfl ?_
  refine g_icmp_ge (tgt := 37) F dJ17_checkLength_2 (by decide) (fun c1 => ?_) (fun c1 => absurd c1 ((fun z => z (nI_le h0 hj))))
  exact g_vret F dJ17_checkLength_37 (⟨rfl, rfl⟩)
theorem sbD_tak {t : Nat → Int32} {n : Nat} : va_cpy (sbD t n) (fun _ => 0) 0 0 n = sbD t n := sbD_cpy (Nat.le_refl _)
theorem nI_00 (n : Nat) : nI n - 0 = nI n := Int32.sub_zero _
set_option maxHeartbeats 4000000 in
set_option maxRecDepth 100000 in
theorem ct_J17_copyOfRangeByte {K : gK} {h : AH} {d n C : Nat} {t : Nat → Int32} (hd : h d = some (.inl (gT K 1, C, .inl (sbD t n)))) (hdo : gOld K d = none) (hnC : n ≤ C) (hm : n ≤ 140) (hC : C ≤ 300) (hcc : sbC t n) : gCt K yJ17_copyOfRangeByte w_J17_copyOfRangeByte 1 27 1 300 h [.ref d, .int 0, .int (nI n)] (pO (nwO K h (.inl (gT K 1, n, .inl (sbD t n))))) := by
  refine g_meth pf_J17_copyOfRangeByte (nle rfl) (fun p e s m args below meth c F hnm htb => ?_)
  have F : gFix K p s m args meth c cJ17_copyOfRangeByte 5 RJ17 (some (.array .byte)) := F
  refine g_eql (lv' := [(0, .ref d), (1, .int 0), (2, .int (nI n))]) rfl ?_
  refine g_iload_n F dJ17_copyOfRangeByte_0 1 rfl rfl ?_
  refine g_iload_n F dJ17_copyOfRangeByte_1 2 rfl rfl ?_
  refine g_eqs (st' := [.int (nI n), .int (nI 0)]) (rfl) ?_
  refine g_callS F dJ17_copyOfRangeByte_2 mi_J17_checkLength q989 q990 (ct_J17_checkLength (i := 0) (Nat.zero_le _) (by omega)) rfl rfl (nle rfl) (nle rfl) (nle rfl) (g_purv ?_) g_purvX
  refine g_iload_n F dJ17_copyOfRangeByte_5 2 rfl rfl ?_
  refine g_iload_n F dJ17_copyOfRangeByte_6 1 rfl rfl ?_
  refine g_isub F dJ17_copyOfRangeByte_7 ?_
  refine g_eqs (st' := [.int (nI n)]) (by rw [nI_00]) ?_
  refine g_istore_n (lv' := [(3, .int (nI n)), (0, .ref d), (1, .int 0), (2, .int (nI n))]) F dJ17_copyOfRangeByte_8 rfl (by decide) rfl ?_
  refine g_iload_n F dJ17_copyOfRangeByte_9 0 rfl rfl ?_
  refine g_room (b' := 1) (bs' := (300 - n) + n) (by omega) (by omega) ?_
  refine g_newa (t := 1) (atype := .byte) (N := n) (d := .inl (fun _ => 0)) (b := 0) (bs := (300 - n)) F q275 (by decide) rfl (fun _ => rfl) dJ17_copyOfRangeByte_10 (nI_pos (by omega)) (nI_clamp (by omega)) (by show _ * 1 ≤ _; omega) (fun q8 h_9 hn_e10 ho_e10 e10 => ?_)
  have d11 := gnew hn_e10 hd
  have f12 := gu_t e10 hd d11
  have f13 := gu_a e10
  refine g_astore (lv' := [(4, .ref q8), (3, .int (nI n)), (0, .ref d), (1, .int 0), (2, .int (nI n))]) F dJ17_copyOfRangeByte_12 (by decide) rfl ?_
  refine g_aload_n F dJ17_copyOfRangeByte_14 2 rfl rfl ?_
  refine g_iload_n F dJ17_copyOfRangeByte_15 3 rfl rfl ?_
  refine g_aload F dJ17_copyOfRangeByte_16 0 rfl ?_
  refine g_iconst (v := 0) F dJ17_copyOfRangeByte_18 rfl ?_
  refine g_aload_n F dJ17_copyOfRangeByte_19 2 rfl rfl ?_
  refine g_alen F (by decide) f12 dJ17_copyOfRangeByte_20 ?_
  refine g_iload_n F dJ17_copyOfRangeByte_21 3 rfl rfl ?_
  refine g_isub F dJ17_copyOfRangeByte_22 ?_
  refine g_iload_n F dJ17_copyOfRangeByte_23 1 rfl rfl ?_
  refine g_eqs (st' := [.int (nI n), .int (nI C), .int 0, .ref q8, .int 0, .ref d]) (by rw [nI_00]) ?_
  refine g_callS F dJ17_copyOfRangeByte_24 mi_J16_min q713 q714 ct_J16_min rfl rfl (nle rfl) (nle rfl) (nle rfl) (g_pur ?_) g_purX
  refine g_acpy (t := 1) F ⟨q716, q718, q717, q94⟩ (by decide) f12 hdo f13 ho_e10 (by decide) (by decide) (by rw [mMin_N (by omega) (by omega)]; exact nI_pos (by omega)) (by rw [show (mMin (nI C) (nI n)).toNatClampNeg = n by rw [mMin_N (by omega) (by omega), nI_clamp (by omega)]; omega, show (0 : Int32).toNatClampNeg = 0 from rfl]; omega) (by rw [show (mMin (nI C) (nI n)).toNatClampNeg = n by rw [mMin_N (by omega) (by omega), nI_clamp (by omega)]; omega]; exact Nat.le_of_eq (Nat.zero_add _)) (fun i hi => sbD_f hcc _) (nle rfl) (nle rfl) dJ17_copyOfRangeByte_27 (fun h_21 e22 => ?_)
  rw [show (mMin (nI C) (nI n)).toNatClampNeg = n by rw [mMin_N (by omega) (by omega), nI_clamp (by omega)]; omega, show (0 : Int32).toNatClampNeg = 0 from rfl, sbD_tak] at e22
  have e23 := (by rw [e22, e10, gu_gu] : h_21 = gu h q8 _)
  have f24 := gu_t e22 f12 d11
  have f25 := gu_a e22
  refine g_aload F dJ17_copyOfRangeByte_30 0 rfl ?_
  exact g_aret F dJ17_copyOfRangeByte_32 (Or.inr ⟨_, rfl⟩) (Or.inr ⟨_, rfl⟩) (⟨_, rfl, _, rfl, hn_e10, ho_e10, by rw [e22, e10, gu_gu]⟩)
set_option maxHeartbeats 4000000 in
set_option maxRecDepth 100000 in
theorem ct_J17_copyOfRange {K : gK} {h : AH} {d n C : Nat} {t : Nat → Int32} (hd : h d = some (.inl (gT K 1, C, .inl (sbD t n)))) (hdo : gOld K d = none) (hnC : n ≤ C) (hm : n ≤ 140) (hC : C ≤ 300) (hcc : sbC t n) : gCt K yJ17_copyOfRange w_J17_copyOfRange 2 51 1 300 h [.ref d, .int 0, .int (nI n)] (pO (nwO K h (.inl (gT K 1, n, .inl (sbD t n))))) := by
  refine g_meth pf_J17_copyOfRange (nle rfl) (fun p e s m args below meth c F hnm htb => ?_)
  have F : gFix K p s m args meth c cJ17_copyOfRange 3 RJ17 (some (.array .byte)) := F
  refine g_eql (lv' := [(0, .ref d), (1, .int 0), (2, .int (nI n))]) rfl ?_
  refine g_iload_n F dJ17_copyOfRange_0 1 rfl rfl ?_
  refine g_if_ne (tgt := 10) F dJ17_copyOfRange_1 (by decide) (fun c1 => absurd c1 ((fun z => absurd rfl z))) (fun c1 => ?_)
  refine g_iload_n F dJ17_copyOfRange_4 2 rfl rfl ?_
  refine g_aload_n F dJ17_copyOfRange_5 0 rfl rfl ?_
  refine g_alen F (by decide) hd dJ17_copyOfRange_6 ?_
  refine g_icmp_eq (tgt := 17) F dJ17_copyOfRange_7 (by decide) (fun c2 => ?_) (fun c2 => ?_)
  · have dCn : n = C := (nI_eq (by omega) (by omega)).mp c2
    subst dCn
    refine g_aload_n F dJ17_copyOfRange_17 0 rfl rfl ?_
    refine g_room (b' := 1) (bs' := (300 - n) + n) (by omega) (by omega) ?_
    refine g_cloneB (b := 0) (bs := (300 - n)) F q849 hd hdo (fun i _ => sbD_f hcc i) (nle rfl) (nle rfl) dJ17_copyOfRange_18 (fun q3 h_4 hn_e5 ho_e5 e5 => ?_)
    have d6 := gnew hn_e5 hd
    have f7 := gu_t e5 hd d6
    have f8 := gu_a e5
    refine g_castB F q855 f8 ho_e5 dJ17_copyOfRange_21 ?_
    exact g_aret F dJ17_copyOfRange_24 (Or.inr ⟨_, rfl⟩) (Or.inr ⟨_, rfl⟩) (⟨_, rfl, _, rfl, hn_e5, ho_e5, by rw [e5]⟩)
  · refine g_aload_n F dJ17_copyOfRange_10 0 rfl rfl ?_
    refine g_iload_n F dJ17_copyOfRange_11 1 rfl rfl ?_
    refine g_iload_n F dJ17_copyOfRange_12 2 rfl rfl ?_
    refine g_callS (b := 0) (bs := 0) F dJ17_copyOfRange_13 mi_J17_copyOfRangeByte q986 q987 (ct_J17_copyOfRangeByte hd hdo hnC hm hC hcc) rfl rfl (nle rfl) (nle rfl) (nle rfl) (g_pO (fun v9 h_10 p11 => ?_)) g_pOX
    obtain ⟨q16, rfl, hn_e17, ho_e17, e17⟩ := p11
    have d18 := gnew hn_e17 hd
    have f19 := gu_t e17 hd d18
    have f20 := gu_a e17
    refine g_eqs (st' := [.ref q16]) rfl ?_
    exact g_aret F dJ17_copyOfRange_16 (Or.inr ⟨_, rfl⟩) (Or.inr ⟨_, rfl⟩) (⟨_, rfl, _, rfl, hn_e17, ho_e17, by rw [e17]⟩)
set_option maxHeartbeats 4000000 in
set_option maxRecDepth 100000 in
theorem ct_J6_init_2 {K : gK} {h : AH} {q0 a d n : Nat} {t : Nat → Int32} (hq : h q0 = some (.inr (7, [.null, .int 0, .int 0, .int 0]))) (hqo : gOld K q0 = none) (hs : sbO K h a d t n) (hm : n ≤ 140) : gCt K yJ6_init_2 w_J6_init_2 3 73 1 300 h [.ref q0, .ref a, .null] (pO (nwV K h (.inl (gT K 1, n, .inl (sbD t n))) q0 (fun z => .inr (7, [.ref z, .int 0, .int 0, .int 0])))) := by
  refine g_meth pf_J6_init_2 (nle rfl) (fun p e s m args below meth c F hnm htb => ?_)
  have F : gFix K p s m args meth c cJ6_init_2 5 RJ6 none := F
  refine g_eql (lv' := [(0, .ref q0), (1, .ref a), (2, .null)]) rfl ?_
  have hs8 := hs
  obtain ⟨C, hs⟩ := hs
  have hs9 := hs
  obtain ⟨ha, hao, hdo, hd, hnC, hC2, hcc⟩ := hs
  refine g_aload_n F dJ6_init_2_0 0 rfl rfl ?_
  refine g_objInit F q968 q124 q125 dJ6_init_2_1 (nle rfl) (nle rfl) ?_
  refine g_aload_n F dJ6_init_2_4 1 rfl rfl ?_
  refine g_callV F dJ6_init_2_5 mi_J4_getValue q969 q970 q972 gc_J5 ha (ct_J4_getValue ha) rfl rfl (nle rfl) (nle rfl) (nle rfl) (g_pur ?_) g_purX
  refine g_astore_n (lv' := [(3, .ref d), (0, .ref q0), (1, .ref a), (2, .null)]) F dJ6_init_2_8 rfl (by decide) rfl ?_
  refine g_aload_n F dJ6_init_2_9 2 rfl rfl ?_
  refine g_callU (x := ⟨"java/lang/AbstractStringBuilder", "length", "()I"⟩) (owner := "java/lang/AbstractStringBuilder") F dJ6_init_2_10 mi_J5_length rfl (F.w q974) (F.w q976) (va_Decl.of (F.w q975) (F.w q981)) (by decide) q978 q977 gc_J5 ha (ct_J5_length hs8) rfl rfl (nle rfl) (nle rfl) (nle rfl) (g_pur ?_) g_purX
  refine g_istore (lv' := [(4, .int (nI n)), (3, .ref d), (0, .ref q0), (1, .ref a), (2, .null)]) F dJ6_init_2_13 (by decide) rfl ?_
  refine g_aload_n F dJ6_init_2_15 3 rfl rfl ?_
  refine g_callV F dJ6_init_2_16 mi_J4_isLatin1 q982 q857 q859 gc_J5 ha (ct_J4_isLatin1 ha) rfl rfl (nle rfl) (nle rfl) (nle rfl) (g_pur ?_) g_purX
  refine g_if_eq (tgt := 41) F dJ6_init_2_19 (by decide) (fun c22 => absurd c22 (by decide)) (fun c22 => ?_)
  refine g_aload_n F dJ6_init_2_22 2 rfl rfl ?_
  refine g_iconst (v := 0) F dJ6_init_2_23 rfl ?_
  refine gp_J6_15_J6 (fs' := [.null, .int 0, .int 0, .int 0]) F hnm dJ6_init_2_24 (by first | rfl | decide | exact mIn_n | (split <;> rfl)) (by first | rfl | decide | (split <;> rfl)) hq hqo (nle rfl) rfl (fun h_23 e24 => ?_)
  have f25 := gu_t e24 ha (gne ha hq (by decide))
  have f26 := gu_t e24 hd (gneB hd hq)
  have f27 := gu_a e24
  refine g_aload_n F dJ6_init_2_27 2 rfl rfl ?_
  refine g_aload_n F dJ6_init_2_28 1 rfl rfl ?_
  refine g_iconst (v := 0) F dJ6_init_2_29 rfl ?_
  refine g_iload F dJ6_init_2_30 0 rfl ?_
  refine g_callS (b := 0) (bs := 0) F dJ6_init_2_32 mi_J17_copyOfRange q983 q984 (ct_J17_copyOfRange f26 hdo hnC hm (by omega) hcc) rfl rfl (nle rfl) (nle rfl) (nle rfl) (g_pO (fun v28 h_29 p30 => ?_)) g_pOX
  obtain ⟨q35, rfl, hn_e36, ho_e36, e36⟩ := p30
  have d37 := gnew hn_e36 f25
  have d38 := gnew hn_e36 f26
  have d39 := gnew hn_e36 f27
  have f40 := gu_t e36 f25 d37
  have f41 := gu_t e36 f26 d38
  have f42 := gu_t e36 f27 d39
  have f43 := gu_a e36
  refine g_eqs (st' := [.ref q35, .ref q0]) rfl ?_
  refine gp_J6_9_J6 (fs' := [.ref q35, .int 0, .int 0, .int 0]) F hnm dJ6_init_2_35 (Or.inr ⟨_, rfl⟩) f42 hqo (nle rfl) rfl (fun h_44 e45 => ?_)
  have f46 := gu_t e45 f40 (gne f40 f42 (by decide))
  have f47 := gu_t e45 f41 (gneB f41 f42)
  have f48 := gu_t e45 f43 (Ne.symm d39)
  have f49 := gu_a e45
  refine g_goto (tgt := 97) F dJ6_init_2_38 (by decide) ?_
  exact g_vret F dJ6_init_2_97 (⟨none, rfl, rfl, _, by have z := hn_e36; rw [e24, gu_id hq] at z; exact z, ho_e36, by rw [e45, e36, e24, gu_id hq]⟩)
set_option maxHeartbeats 4000000 in
set_option maxRecDepth 100000 in
theorem ct_J6_init {K : gK} {h : AH} {q0 a d n : Nat} {t : Nat → Int32} (hq : h q0 = some (.inr (7, [.null, .int 0, .int 0, .int 0]))) (hqo : gOld K q0 = none) (hs : sbO K h a d t n) (hm : n ≤ 140) : gCt K yJ6_init w_J6_init 4 97 1 300 h [.ref q0, .ref a] (pO (nwV K h (.inl (gT K 1, n, .inl (sbD t n))) q0 (fun z => .inr (7, [.ref z, .int 0, .int 0, .int 0])))) := by
  refine g_meth pf_J6_init (nle rfl) (fun p e s m args below meth c F hnm htb => ?_)
  have F : gFix K p s m args meth c cJ6_init 2 RJ6 none := F
  refine g_eql (lv' := [(0, .ref q0), (1, .ref a)]) rfl ?_
  have hs8 := hs
  obtain ⟨C, hs⟩ := hs
  have hs9 := hs
  obtain ⟨ha, hao, hdo, hd, hnC, hC2, hcc⟩ := hs
  refine g_aload_n F dJ6_init_0 0 rfl rfl ?_
  refine g_aload_n F dJ6_init_1 1 rfl rfl ?_
  refine g_null F dJ6_init_2 ?_
  refine g_callI (b := 0) (bs := 0) F dJ6_init_3 mi_J6_init_2 rfl q965 q966 (ct_J6_init_2 hq hqo hs8 hm) rfl rfl (nle rfl) (nle rfl) (nle rfl) (g_pO (fun v1 h_2 p3 => ?_)) g_pOX
  obtain ⟨rfl, p3⟩ := p3
  refine g_eqs (st' := []) rfl ?_
  exact g_vret F dJ6_init_6 (⟨none, rfl, rfl, p3⟩)
set_option maxHeartbeats 4000000 in
set_option maxRecDepth 100000 in
theorem ct_J5_toString {K : gK} {h : AH} {a d n : Nat} {t : Nat → Int32} (hs : sbO K h a d t n) (hm : n ≤ 140) : gCt K yJ5_toString w_J5_toString 5 118 2 304 h [.ref a] (pO (fun r h9 => ∃ q, r = some (.ref q) ∧ h q = none ∧ strO h9 K q t n ∧ gE h h9)) := by
  refine g_meth pf_J5_toString (nle rfl) (fun p e s m args below meth c F hnm htb => ?_)
  have F : gFix K p s m args meth c cJ5_toString 1 RJ5 (some (.object "java/lang/String")) := F
  refine g_eql (lv' := [(0, .ref a)]) rfl ?_
  have hs8 := hs
  obtain ⟨C, hs⟩ := hs
  have hs9 := hs
  obtain ⟨ha, hao, hdo, hd, hnC, hC2, hcc⟩ := hs
  refine g_new (fs := [.null, .int 0, .int 0, .int 0]) (b := 1) (bs := 300) F in_J6 tyJ6 tyJ6_ok q960 q961 q78 gc_J6 nf_J6 dJ5_toString_0 (fun q1 h_2 hn_e3 ho_e3 e3 => ?_)
  have d4 := gnew hn_e3 ha
  have d5 := gnew hn_e3 hd
  have f6 := gu_t e3 ha d4
  have f7 := gu_t e3 hd d5
  have f8 := gu_a e3
  refine g_dup F dJ5_toString_3 rfl ?_
  refine g_aload_n F dJ5_toString_4 0 rfl rfl ?_
  refine g_callI (b := 0) (bs := 0) F dJ5_toString_5 mi_J6_init rfl q962 q963 (ct_J6_init f8 ho_e3 (sbO.up (gE.new1 gE.rf e3 hn_e3) hs8) hm) rfl rfl (nle rfl) (nle rfl) (nle rfl) (g_pO (fun v9 h_10 p11 => ?_)) g_pOX
  obtain ⟨rfl, z1, hz1, hz2, hz3⟩ := p11
  refine g_eqs (st' := [.ref q1]) rfl ?_
  exact g_aret F dJ5_toString_8 (Or.inl ⟨_, rfl⟩) (Or.inr ⟨_, rfl⟩) (⟨_, rfl, q1, rfl, hn_e3, ⟨z1, 0, 0, sbD t n, by rw [hz3]; exact gu_s, by rw [hz3, gu_n (fun z => by rw [z, e3, gu_s] at hz1; cases hz1)]; exact gu_s, fun i hi => sbD_i hi, hcc⟩, fun x ex hx => by rw [hz3]; exact gu_o (gu_o (gu_t e3 hx (gnew hn_e3 hx)) (fun z => by rw [z] at hx; rw [gE.no (gE.new1 gE.rf e3 hn_e3) hz1] at hx; cases hx)) (gnew hn_e3 hx)⟩)
