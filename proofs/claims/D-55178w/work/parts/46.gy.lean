/-! ===== THROWS, MIRRORS, LISTS ===== -/
theorem gE.new1 {h h1 h2 : AH} {q : Nat} {e : va_E} (f : gE h h1) (e1 : h2 = gu h1 q e) (hn : h1 q = none) : gE h h2 := by rw [e1]; exact f.trn hn
theorem gE.wr1 {h h1 h2 : AH} {a : Nat} {e : va_E} (f : gE h h1) (e1 : h2 = gu h1 a e) (hn : h a = none) : gE h h2 := by rw [e1]; exact f.wr hn
/-- throws with X -/
def pX (X : Nat → AH → Prop) : gRes → AH → Prop := fun r h' => ∃ q, r = .inr q ∧ X q h'
/-- thrown: a new thing of class ci -/
def tX (h0 : AH) (ci : Nat) (fs : List Value) : Nat → AH → Prop := fun q h' => h' q = some (.inr (ci, fs)) ∧ gE h0 h'
theorem tX.to {h h0 : AH} {ci : Nat} {fs : List Value} {q : Nat} {h' : AH} (f : gE h h0) (x : tX h0 ci fs q h') : tX h ci fs q h' := ⟨x.1, f.tr x.2⟩
section GY
variable {K : gK} {p : Program} {e : Env} {s : State} {m : MethodId} {args : Array Value} {below : List Frame} {meth : Method} {c : Code} {R : Room} {nL : Nat} {post : gRes → AH → Prop} {h : AH} {b bs pc : Nat} {lv : List (Nat × Value)} {st : List Value} {cc : ByteArray} {own : String} {ret : Option FieldType}
theorem g_pXV {X : Nat → AH → Prop} : ∀ (v : Option Value) (h1 : AH), pX X (.inl v) h1 → G K p e s m args below meth c R nL post h1 b bs pc lv (v.toList ++ st) := by
  rintro v h1 ⟨q, hq, -⟩
  cases hq
theorem g_pXX {X : Nat → AH → Prop} {pc : Nat} (kx : ∀ (q : Nat) (h1 : AH), X q h1 → gOld K q = none → GX K p e s m args below meth c R nL post h1 b bs pc lv q) : ∀ (q : Nat) (h1 : AH), pX X (.inr q) h1 → gOld K q = none → GX K p e s m args below meth c R nL post h1 b bs pc lv q := by
  rintro q h1 ⟨q2, hq, hx⟩ ho
  cases hq
  exact kx q h1 hx ho
theorem g_ldcM {C : String} {index mi : Nat} (F : gFix K p s m args meth c cc nL own ret) (hl0 : Cond.classLink own index C ∈ lw_all) (hM : va_Mi C mi s) (hd : decode cc pc = .ok (.ldc index, 2)) (kk : G K p e s m args below meth c R nL post h b bs (pc + 2) lv (.ref mi :: st)) : G K p e s m args below meth c R nL post h b bs pc lv st :=
  fun H locs ls kc ks hH hS hl hb hbs => va_ldcM F.1 F.2.1 F.2.2.2.1 (F.w hl0) hM hd (kk H locs ls kc ks hH hS hl hb hbs)
theorem gFix.mi (F : gFix K p s m args meth c cc nL own ret) : va_Mi "[Ljava/lang/Object;" (gAd K 200) s := F.2.2.2.2.2.2.2.2.2.2.2.2.2.2.2
theorem g_getC {index a n : Nat} {d : (Nat → Int32) ⊕ (Nat → Int64) ⊕ (Nat → UInt32) ⊕ (Nat → UInt64) ⊕ (Nat → Option Nat)} (F : gFix K p s m args meth c cc nL own ret) (hl0 : Cond.methodLink own index ⟨"java/lang/Object", "getClass", "()Ljava/lang/Class;"⟩ ∈ lw_all) (ha : h a = some (.inl (gT K 6, n, d))) (hfr : 1 ≤ R.frames) (hlo : (st.map fun v => v.category).sum + 14 ≤ R.locals) (hd : decode cc pc = .ok (.invokevirtual index, 3)) (kk : G K p e s m args below meth c R nL post h b bs (pc + 3) lv (.ref (gAd K 200) :: st)) : G K p e s m args below meth c R nL post h b bs pc lv (.ref a :: st) := by
  intro H locs ls kc ks hH hS hl hb hbs
  obtain ⟨cell, g1, -, -, g4, -, -, g7, -⟩ := greadA hH (F.O hS) F.hK F.inj (by decide) ha
  have hnm : s.vm.findClass "[Ljava/lang/Object;" = some (gT K 6) := va_nmO (C := "java/lang/Object") (F.hK.2 6 _ (gTys_at K (by decide))).2 rfl
  exact va_getC F.1 F.2.1 (by rw [F.2.2.1]; exact hl.1.symm) F.2.2.2.1 (F.w hl0) ((F.nw q2739 rfl).use rfl) (F.w q2738) (F.w q674) (F.w q707) F.mi ⟨cell, g1, g4, by rw [g7]; exact hnm⟩ hfr hlo hd (kk H locs ls kc ks hH hS hl hb hbs)
theorem g_aastO {n v : Nat} {f : Nat → Option Nat} {a i i0 : Nat} {x : Int32} (F : gFix K p s m args meth c cc nL own ret) (hv : gOb h v) (ha : h a = some (.inl (gT K 6, n, .inr (.inr (.inr (.inr f)))))) (ho : gOld K a = none) (hx : x = nI i0) (he : i0 = i) (hi : i < n) (hn : n < 2 ^ 31) (hd : decode cc pc = .ok (.aastore, 1)) (kk : ∀ h1 : AH, h1 = gu h a (.inl (gT K 6, n, .inr (.inr (.inr (.inr (va_up f i (some v))))))) → G K p e s m args below meth c R nL post h1 b bs (pc + 1) lv st) : G K p e s m args below meth c R nL post h b bs pc lv (.ref v :: .int x :: .ref a :: st) := by
  obtain ⟨ci, C, fs, hm, hv2⟩ := hv
  obtain ⟨⟨T, N, hc⟩, hw⟩ := gObs_ok _ hm
  exact g_aastN2 (t := 6) F (by decide) rfl hc (gFit.of F hw) ha ho hv2 hx he hi hn hd kk
end GY
theorem gOb.of {h : AH} {y ci : Nat} {C : String} {fs : List Value} (hm : (ci, C) ∈ gObs) (ha : h y = some (.inr (ci, fs))) : gOb h y := ⟨ci, C, fs, hm, ha⟩
theorem gOb_b {h : AH} {y : Nat} {fs : List Value} (ha : h y = some (.inr (9, fs))) : gOb h y := gOb.of (C := RX5) (by simp [gObs]) ha
theorem gOb_c {h : AH} {y : Nat} {fs : List Value} (ha : h y = some (.inr (10, fs))) : gOb h y := gOb.of (C := RX6) (by simp [gObs]) ha
theorem gOb_h {h : AH} {y : Nat} {fs : List Value} (ha : h y = some (.inr (11, fs))) : gOb h y := gOb.of (C := RX7) (by simp [gObs]) ha
theorem gOb_q {h : AH} {y : Nat} {fs : List Value} (ha : h y = some (.inr (12, fs))) : gOb h y := gOb.of (C := RX17) (by simp [gObs]) ha
theorem gOb_x {h : AH} {y : Nat} {fs : List Value} (ha : h y = some (.inr (18, fs))) : gOb h y := gOb.of (C := RX8) (by simp [gObs]) ha
/-- a place written: what a thing's class is stays -/
theorem gOb.wr {h h1 : AH} {a y : Nat} {x : ClassId × vp_A} (e1 : h1 = gu h a (.inl x)) {z : ClassId × vp_A} (ha : h a = some (.inl z)) (hy : gOb h y) : gOb h1 y := by
  obtain ⟨ci, C, fs, hm, hv⟩ := hy
  exact ⟨ci, C, fs, hm, gu_t e1 hv (gneA hv ha)⟩
theorem gOb.wo {h h1 : AH} {a y ci : Nat} {fs gs : List Value} (e1 : h1 = gu h a (.inr (ci, gs))) (ha : h a = some (.inr (ci, fs))) (hy : gOb h y) : gOb h1 y := by
  obtain ⟨cj, C, ks, hm, hv⟩ := hy
  by_cases q : y = a
  · subst q
    rw [ha] at hv
    cases hv
    exact ⟨ci, C, gs, hm, gu_a e1⟩
  · exact ⟨cj, C, ks, hm, gu_t e1 hv q⟩
/-- new for the heap h0 -/
def gNw (K : gK) (h0 : AH) : Nat → Prop := fun a => h0 a = none ∧ gOld K a = none
theorem gNw.of {K : gK} {h0 h : AH} {a : Nat} (f : gE h0 h) (hn : h a = none) (ho : gOld K a = none) : gNw K h0 a := ⟨f.no hn, ho⟩
/-- a list's room -/
def cpO (n : Nat) : Nat := if n = 0 then 0 else if n ≤ 10 then 10 else 15
theorem cpO_le {n : Nat} (h : n ≤ 15) : n ≤ cpO n := by unfold cpO; split <;> (try split) <;> omega
theorem cpO_15 {n : Nat} : cpO n ≤ 15 := by unfold cpO; split <;> (try split) <;> omega
/-- the list at a (its array at d): n things l -/
def lsO (K : gK) (N : Nat → Prop) (h : AH) (a d n : Nat) (l : Nat → Nat) (md : Int32) : Prop := h a = some (.inr (4, [.int md, .ref d, .int (nI n)])) ∧ N a ∧ n ≤ 15 ∧ ((n = 0 ∧ d = gAd K 203) ∨ (0 < n ∧ N d ∧ gOld K d = none ∧ h d = some (.inl (gT K 6, cpO n, .inr (.inr (.inr (.inr (lsD l n))))))))
theorem lsO.up {K : gK} {N : Nat → Prop} {h h' : AH} {a d n : Nat} {l : Nat → Nat} {md : Int32} (f : gE h h') (x : lsO K N h a d n l md) : lsO K N h' a d n l md := by
  obtain ⟨h1, h2, h3, h4⟩ := x
  refine ⟨f _ _ h1, h2, h3, ?_⟩
  rcases h4 with q | ⟨q1, q2, q3, q4⟩
  · exact .inl q
  · exact .inr ⟨q1, q2, q3, f _ _ q4⟩
theorem lsO.N {K : gK} {N N' : Nat → Prop} {h : AH} {a d n : Nat} {l : Nat → Nat} {md : Int32} (w : ∀ x, N x → N' x) (x : lsO K N h a d n l md) : lsO K N' h a d n l md := by
  obtain ⟨h1, h2, h3, h4⟩ := x
  refine ⟨h1, w _ h2, h3, ?_⟩
  rcases h4 with q | ⟨q1, q2, q3, q4⟩
  · exact .inl q
  · exact .inr ⟨q1, w _ q2, q3, q4⟩
theorem lsO.ar {K : gK} {N : Nat → Prop} {h : AH} {a d n i : Nat} {l : Nat → Nat} {md : Int32} (x : lsO K N h a d n l md) (hi : i < n) : gOld K d = none ∧ N d ∧ h d = some (.inl (gT K 6, cpO n, .inr (.inr (.inr (.inr (lsD l n)))))) := by
  rcases x.2.2.2 with ⟨q, -⟩ | ⟨-, q2, q3, q4⟩
  · omega
  · exact ⟨q3, q2, q4⟩
/-- ArrayList's empty array -/
def gKA (K : gK) : Prop := gOld K (gAd K 203) = some (.inl (gT K 6, 0, .inr (.inr (.inr (.inr (fun _ => none))))))
theorem lsD_c {l l' : Nat → Nat} {n : Nat} (h : ∀ i, i < n → l i = l' i) : lsD l n = lsD l' n := by
  funext i
  unfold lsD
  by_cases q : i < n
  · rw [if_pos q, if_pos q, h i q]
  · rw [if_neg q, if_neg q]
theorem lsO.c {K : gK} {N : Nat → Prop} {h : AH} {a d n : Nat} {l l' : Nat → Nat} {md : Int32} (x : lsO K N h a d n l md) (e : ∀ i, i < n → l i = l' i) : lsO K N h a d n l' md := by
  unfold lsO at *
  rw [← lsD_c e]
  exact x
theorem nI_toNat {n : Nat} (h : n < 2 ^ 31) : (nI n).toNatClampNeg = n := nI_clamp h
section GY2
variable {K : gK} {p : Program} {e : Env} {s : State} {m : MethodId} {args : Array Value} {below : List Frame} {meth : Method} {c : Code} {R : Room} {nL : Nat} {post : gRes → AH → Prop} {h : AH} {b bs pc : Nat} {lv : List (Nat × Value)} {st : List Value} {cc : ByteArray} {own : String} {ret : Option FieldType}
theorem g_zastN {n i0 i : Nat} {f : Nat → Int32} {a : Nat} {x y z : Int32} (F : gFix K p s m args meth c cc nL own ret) (ha : h a = some (.inl (gT K 2, n, .inl f))) (ho : gOld K a = none) (hx : x = nI i0) (he : i0 = i) (hi : i < n) (hn : n < 2 ^ 31) (hd : decode cc pc = .ok (.bastore, 1)) (hy : vp_nar .boolean y = z) (kk : ∀ h1 : AH, h1 = gu h a (.inl (gT K 2, n, .inl (upd f i z))) → G K p e s m args below meth c R nL post h1 b bs (pc + 1) lv st) : G K p e s m args below meth c R nL post h b bs pc lv (.int y :: .int x :: .ref a :: st) := by
  subst he; subst hx; subst hy
  refine g_zast F ha ho (vp_in_nI hi hn) hd (fun h1 e1 => ?_)
  rw [nI_clamp (Nat.lt_trans hi hn)] at e1
  exact kk h1 e1
theorem g_bastN {n i0 i : Nat} {f : Nat → Int32} {a : Nat} {x y z : Int32} (F : gFix K p s m args meth c cc nL own ret) (ha : h a = some (.inl (gT K 1, n, .inl f))) (ho : gOld K a = none) (hx : x = nI i0) (he : i0 = i) (hi : i < n) (hn : n < 2 ^ 31) (hd : decode cc pc = .ok (.bastore, 1)) (hy : vp_nar .byte y = z) (kk : ∀ h1 : AH, h1 = gu h a (.inl (gT K 1, n, .inl (upd f i z))) → G K p e s m args below meth c R nL post h1 b bs (pc + 1) lv st) : G K p e s m args below meth c R nL post h b bs pc lv (.int y :: .int x :: .ref a :: st) := by
  subst he; subst hx; subst hy
  refine g_bast F ha ho (vp_in_nI hi hn) hd (fun h1 e1 => ?_)
  rw [nI_clamp (Nat.lt_trans hi hn)] at e1
  exact kk h1 e1
end GY2
theorem fa_c {α : Type} {P : α → Prop} {a : α} {l L : List α} (e : L = a :: l) (ha : P a) (hl : ∀ x ∈ l, P x) : ∀ x ∈ L, P x := by
  subst e
  intro x hx
  rcases List.mem_cons.mp hx with rfl | q
  · exact ha
  · exact hl x q
theorem fa_n {α : Type} {P : α → Prop} {L : List α} (e : L = []) : ∀ x ∈ L, P x := by
  subst e
  intro x hx
  cases hx
/-- answers a new thing -/
def nwO (K : gK) (h : AH) (E : va_E) : Option Value → AH → Prop := fun v h' => ∃ q, v = some (.ref q) ∧ h q = none ∧ gOld K q = none ∧ h' = gu h q E
/-- answers a new thing, which a now names -/
def nwA (K : gK) (h : AH) (E : va_E) (a : Nat) (E2 : Nat → va_E) : Option Value → AH → Prop := fun v h' => ∃ q, v = some (.ref q) ∧ h q = none ∧ gOld K q = none ∧ h' = gu (gu h q E) a (E2 q)
/-- the list at a (its array at d) has now n things l; its array may be new -/
def lsG (K : gK) (h0 h : AH) (a d n : Nat) (l : Nat → Nat) : AH → Prop := fun h' => ∃ (d' : Nat) (md' : Int32), lsO K (gNw K h0) h' a d' n l md' ∧ gE h0 h' ∧ (d' = d ∨ h d' = none) ∧ ∀ x e, h x = some e → x ≠ a → (n ≠ 1 → x ≠ d) → h' x = some e
theorem lsD_full {l : Nat → Nat} : va_cpy (lsD l 10) (fun _ => none) 0 0 10 = lsD l 10 := by
  funext k
  by_cases q : k < 10
  · rw [pk_cpy_in (Nat.zero_le _) (by omega)]; simp
  · rw [pk_cpy_out (by omega)]; simp [lsD, q]
theorem cpO_s {n : Nat} (h0 : n ≠ 0) (h1 : n ≠ 10) (h : n < 15) : cpO (n + 1) = cpO n ∧ n < cpO n := by
  unfold cpO
  rw [if_neg (by omega), if_neg h0]
  split <;> split <;> omega
theorem lsD_none {l : Nat → Nat} : (fun _ => none : Nat → Option Nat) = lsD l 0 := lsD_0.symm
theorem lsG.pre {K : gK} {h0 h h1 h' : AH} {a d n : Nat} {l : Nat → Nat} {E : va_E} (e1 : h1 = gu h a E) (p : lsG K h0 h1 a d n l h') : lsG K h0 h a d n l h' := by
  obtain ⟨d', md', p1, p2, p3, p4⟩ := p
  refine ⟨d', md', p1, p2, ?_, fun x e hx n1 n2 => p4 x e (gu_t e1 hx n1) n1 n2⟩
  rcases p3 with q | q
  · exact .inl q
  · refine .inr ?_
    rw [e1] at q
    unfold gu at q
    split at q
    · cases q
    · exact q
/-- x put in at place p -/
def lsI (l : Nat → Nat) (p x : Nat) : Nat → Nat := fun i => if i < p then l i else if i = p then x else l (i - 1)
theorem lsD_i {l : Nat → Nat} {n p x : Nat} (hp : p ≤ n) : va_up (va_cpy (lsD l n) (lsD l n) p (p + 1) (n - p)) p (some x) = lsD (lsI l p x) (n + 1) := by
  funext i
  by_cases q : i = p
  · subst q
    simp [va_up, lsD, lsI, Nat.lt_succ_of_le hp]
  · have e : va_up (va_cpy (lsD l n) (lsD l n) p (p + 1) (n - p)) p (some x) i = va_cpy (lsD l n) (lsD l n) p (p + 1) (n - p) i := by simp [va_up, q]
    rw [e]
    by_cases r : i < p
    · rw [pk_cpy_out (by omega)]
      simp only [lsD, lsI, r, if_true]
      rw [if_pos (by omega), if_pos (by omega)]
    · by_cases t : i < n + 1
      · rw [pk_cpy_in (by omega) (by omega)]
        simp only [lsD, lsI, q, r, if_false]
        rw [if_pos (by omega), if_pos (by omega), show p + (i - (p + 1)) = i - 1 by omega]
      · rw [pk_cpy_out (by omega)]
        simp only [lsD]
        rw [if_neg (by omega), if_neg (by omega)]
theorem gu_no {h h1 : AH} {a q : Nat} {e : va_E} (e1 : h1 = gu h a e) (hn : h1 q = none) : h q = none := by
  rw [e1] at hn
  unfold gu at hn
  split at hn
  · cases hn
  · exact hn
theorem lsO.oth {K : gK} {N : Nat → Prop} {h h1 : AH} {a d n x ci : Nat} {l : Nat → Nat} {md : Int32} {fs gs : List Value} (e1 : h1 = gu h x (.inr (ci, gs))) (hx : h x = some (.inr (ci, fs))) (hc : ci ≠ 4) (p : lsO K N h a d n l md) : lsO K N h1 a d n l md := by
  obtain ⟨p1, p2, p3, p4⟩ := p
  refine ⟨gu_t e1 p1 (gne p1 hx (fun z => hc z.symm)), p2, p3, ?_⟩
  rcases p4 with q | ⟨q1, q2, q3, q4⟩
  · exact .inl q
  · exact .inr ⟨q1, q2, q3, gu_t e1 q4 (gneB q4 hx)⟩
/-- a list grown: things that are no lists stay -/
theorem lsG.ob {K : gK} {N : Nat → Prop} {h0 h h' : AH} {a d n x ci : Nat} {l l' : Nat → Nat} {md : Int32} {fs : List Value} (p : lsG K h0 h a d (n + 1) l' h') (hl : lsO K N h a d n l md) (hx : h x = some (.inr (ci, fs))) (hc : ci ≠ 4) : h' x = some (.inr (ci, fs)) := by
  obtain ⟨d', md', -, -, -, p4⟩ := p
  refine p4 _ _ hx (gne hx hl.1 hc) (fun hn => ?_)
  rcases hl.2.2.2 with ⟨q, -⟩ | ⟨-, -, -, q4⟩
  · omega
  · exact gneA hx q4
/-- and arrays of other kinds -/
theorem lsG.ar {K : gK} {N : Nat → Prop} {h0 h h' : AH} {a d n x t m : Nat} {l l' : Nat → Nat} {md : Int32} {D : (Nat → Int32) ⊕ (Nat → Int64) ⊕ (Nat → UInt32) ⊕ (Nat → UInt64) ⊕ (Nat → Option Nat)} (hinj : ∀ i j, i < 8 → j < 8 → gT K i = gT K j → i = j) (p : lsG K h0 h a d (n + 1) l' h') (hl : lsO K N h a d n l md) (hx : h x = some (.inl (gT K t, m, D))) (ht : t < 8 ∧ t ≠ 6) : h' x = some (.inl (gT K t, m, D)) := by
  obtain ⟨d', md', -, -, -, p4⟩ := p
  refine p4 _ _ hx (gneB hx hl.1) (fun hn => ?_)
  rcases hl.2.2.2 with ⟨q, -⟩ | ⟨-, -, -, q4⟩
  · omega
  · rintro rfl
    rw [hx] at q4
    have := Option.some.inj q4
    injection this with e2
    exact ht.2 (hinj t 6 ht.1 (by decide) (congrArg Prod.fst e2))
/-- and other lists -/
theorem lsG.ls {K : gK} {N N' : Nat → Prop} {h0 h h' : AH} {a d n a2 d2 n2 : Nat} {l l' l2 : Nat → Nat} {md md2 : Int32} (p : lsG K h0 h a d (n + 1) l' h') (hl : lsO K N h a d n l md) (h2 : lsO K N' h a2 d2 n2 l2 md2) (ha : a2 ≠ a) (hd : 0 < n → 0 < n2 → d2 ≠ d) : lsO K N' h' a2 d2 n2 l2 md2 := by
  obtain ⟨d', md', -, -, -, p4⟩ := p
  obtain ⟨r1, r2, r3, r4⟩ := h2
  refine ⟨p4 _ _ r1 ha (fun hn => ?_), r2, r3, ?_⟩
  · rcases hl.2.2.2 with ⟨q, -⟩ | ⟨-, -, -, q4⟩
    · omega
    · exact gneA r1 q4
  · rcases r4 with q | ⟨q1, q2, q3, q4⟩
    · exact .inl q
    · exact .inr ⟨q1, q2, q3, p4 _ _ q4 (gneB q4 hl.1) (fun hn => hd (by omega) q1)⟩
theorem lsG.E {K : gK} {h0 h h' : AH} {a d n : Nat} {l : Nat → Nat} (p : lsG K h0 h a d n l h') : gE h0 h' := p.choose_spec.choose_spec.2.1
/-! things in rows -/
def gNms : List (Nat × String) := [(9, RX5), (10, RX6), (11, RX7), (12, RX17)]
def gNum (h : AH) (y : Nat) : Prop := ∃ (ci : Nat) (C : String) (fs : List Value), (ci, C) ∈ gNms ∧ h y = some (.inr (ci, fs))
theorem gNms_ok : ∀ q ∈ gNms, (∃ (T : u_T) (N : Nat), gCl[q.1]? = some (q.2, T, N)) ∧ Cond.castable q.2 "CurtainRiggers$Numbered" ∈ lw_tbl := by
  intro q hq
  simp only [gNms, List.mem_cons, List.not_mem_nil, or_false] at hq
  rcases hq with rfl | rfl | rfl | rfl
  · exact ⟨⟨_, _, gc_X5⟩, q513⟩
  · exact ⟨⟨_, _, gc_X6⟩, q581⟩
  · exact ⟨⟨_, _, gc_X7⟩, q615⟩
  · exact ⟨⟨_, _, gc_X17⟩, q571⟩
theorem gNum.of {h : AH} {y ci : Nat} {C : String} {fs : List Value} (hm : (ci, C) ∈ gNms) (ha : h y = some (.inr (ci, fs))) : gNum h y := ⟨ci, C, fs, hm, ha⟩
theorem gNum.ob {h : AH} {y : Nat} (x : gNum h y) : gOb h y := by
  obtain ⟨ci, C, fs, hm, ha⟩ := x
  refine ⟨ci, C, fs, ?_, ha⟩
  simp only [gNms, List.mem_cons, List.not_mem_nil, or_false] at hm
  simp only [gObs, List.mem_cons, List.not_mem_nil, or_false]
  rcases hm with q | q | q | q <;> simp [q]
theorem gNum.up {h h' : AH} {y : Nat} (f : gE h h') (x : gNum h y) : gNum h' y := by
  obtain ⟨ci, C, fs, hm, ha⟩ := x
  exact ⟨ci, C, fs, hm, f _ _ ha⟩
theorem gNum_b {h : AH} {y : Nat} {fs : List Value} (ha : h y = some (.inr (9, fs))) : gNum h y := gNum.of (C := RX5) (by simp [gNms]) ha
theorem gNum_c {h : AH} {y : Nat} {fs : List Value} (ha : h y = some (.inr (10, fs))) : gNum h y := gNum.of (C := RX6) (by simp [gNms]) ha
theorem gNum_h {h : AH} {y : Nat} {fs : List Value} (ha : h y = some (.inr (11, fs))) : gNum h y := gNum.of (C := RX7) (by simp [gNms]) ha
theorem gNum_q {h : AH} {y : Nat} {fs : List Value} (ha : h y = some (.inr (12, fs))) : gNum h y := gNum.of (C := RX17) (by simp [gNms]) ha
section GY3
variable {K : gK} {p : Program} {e : Env} {s : State} {m : MethodId} {args : Array Value} {below : List Frame} {meth : Method} {c : Code} {R : Room} {nL : Nat} {post : gRes → AH → Prop} {h : AH} {b bs pc : Nat} {lv : List (Nat × Value)} {st : List Value} {cc : ByteArray} {own : String} {ret : Option FieldType}
theorem g_castNm {index a : Nat} (F : gFix K p s m args meth c cc nL own ret) (hl0 : Cond.classLink own index "CurtainRiggers$Numbered" ∈ lw_all) (ha : gNum h a) (hd : decode cc pc = .ok (.checkcast index, 3)) (kk : G K p e s m args below meth c R nL post h b bs (pc + 3) lv (.ref a :: st)) : G K p e s m args below meth c R nL post h b bs pc lv (.ref a :: st) := by
  obtain ⟨ci, C, fs, hm, hv⟩ := ha
  obtain ⟨⟨T, N, hc⟩, hw⟩ := gNms_ok _ hm
  exact g_castY F hl0 hc hw hv hd kk
end GY3
/-- n things of class ci, V i the fields of the i-th -/
def tLs (h : AH) (ci n : Nat) (l : Nat → Nat) (V : Nat → List Value) : Prop := ∀ i, i < n → h (l i) = some (.inr (ci, V i))
theorem tLs.up {h h' : AH} {ci n : Nat} {l : Nat → Nat} {V : Nat → List Value} (f : gE h h') (x : tLs h ci n l V) : tLs h' ci n l V := fun i hi => f _ _ (x i hi)
theorem tLs.oth {h h1 : AH} {ci cj n x : Nat} {l : Nat → Nat} {V : Nat → List Value} {fs gs : List Value} (e1 : h1 = gu h x (.inr (cj, gs))) (hx : h x = some (.inr (cj, fs))) (hc : cj ≠ ci) (t : tLs h ci n l V) : tLs h1 ci n l V := fun i hi => gu_t e1 (t i hi) (gne (t i hi) hx (fun z => hc z.symm))
theorem tLs.G {K : gK} {N : Nat → Prop} {h0 h h' : AH} {ci a d n m : Nat} {l l' l2 : Nat → Nat} {md : Int32} {V : Nat → List Value} (p : lsG K h0 h a d (n + 1) l' h') (hl : lsO K N h a d n l md) (hc : ci ≠ 4) (t : tLs h ci m l2 V) : tLs h' ci m l2 V := fun i hi => lsG.ob p hl (t i hi) hc
theorem tLs.add {h : AH} {ci n y : Nat} {l : Nat → Nat} {V : Nat → List Value} (t : tLs h ci n l V) (hy : h y = some (.inr (ci, V n))) : tLs h ci (n + 1) (lsP l n y) V := by
  intro i hi
  unfold lsP
  by_cases q : i = n
  · subst q; rw [if_pos rfl]; exact hy
  · rw [if_neg q]; exact t i (by omega)
theorem tLs.n0 {h : AH} {ci : Nat} {l : Nat → Nat} {V : Nat → List Value} : tLs h ci 0 l V := fun i hi => absurd hi (Nat.not_lt_zero i)
theorem gNum_st {h h1 : AH} {x y : Nat} {fs gs : List Value} (e1 : h1 = gu h x (.inr (13, gs))) (hx : h x = some (.inr (13, fs))) (z : gNum h y) : gNum h1 y := by
  obtain ⟨ci, C, ks, hm, ha⟩ := z
  refine ⟨ci, C, ks, hm, gu_t e1 ha (gne ha hx ?_)⟩
  simp only [gNms, List.mem_cons, List.not_mem_nil, or_false] at hm
  rintro rfl
  rcases hm with q | q | q | q <;> simp at q
/-- answers a copied row: n new things of class ci with fields V -/
def rwC (K : gK) (h : AH) (ci n : Nat) (mo : Int32) (V : Nat → List Value) : Option Value → AH → Prop := fun v h9 => ∃ (r a d : Nat) (l : Nat → Nat) (md : Int32), v = some (.ref r) ∧ h9 r = some (.inr (3, [.ref a, .int mo])) ∧ gNw K h r ∧ lsO K (gNw K h) h9 a d n l md ∧ gE h h9 ∧ tLs h9 ci n l V ∧ ∀ i, i < n → gNw K h (l i)
/-- answers a row of the same things -/
def rwS (K : gK) (h : AH) (n : Nat) (mo : Int32) (l : Nat → Nat) : Option Value → AH → Prop := fun v h9 => ∃ (r a d : Nat) (md : Int32), v = some (.ref r) ∧ h9 r = some (.inr (3, [.ref a, .int mo])) ∧ gNw K h r ∧ lsO K (gNw K h) h9 a d n l md ∧ gE h h9
theorem nwP {P : Nat → Prop} {n y : Nat} {l : Nat → Nat} (h : ∀ i, i < n → P (l i)) (hy : P y) : ∀ i, i < n + 1 → P (lsP l n y i) := by
  intro i hi
  unfold lsP
  by_cases q : i = n
  · rw [if_pos q]; exact hy
  · rw [if_neg q]; exact h i (by omega)
theorem lsP_c {l : Nat → Nat} {n : Nat} : ∀ i, i < n + 1 → lsP l n (l n) i = l i := by
  intro i hi
  unfold lsP
  by_cases q : i = n
  · rw [if_pos q, q]
  · rw [if_neg q]
section GY4
variable {K : gK} {p : Program} {e : Env} {s : State} {m : MethodId} {args : Array Value} {below : List Frame} {meth : Method} {c : Code} {R : Room} {nL : Nat} {post : gRes → AH → Prop} {h : AH} {b bs pc : Nat} {lv : List (Nat × Value)} {st : List Value} {cc : ByteArray} {own : String} {ret : Option FieldType}
/-- not caught here, past handlers that name other classes (follows the kit's vx_outP) -/
theorem gx_outP {q ci N : Nat} {fs : List Value} {C : String} {T0 : u_T} (F : gFix K p s m args meth c cc nL own ret) (hpass : ∀ z ∈ c.exceptionTable.toList, covers z pc = false ∨ (z.catchType ≠ 0 ∧ ∃ n9 : String, Cond.classLink own z.catchType n9 ∈ lw_all ∧ va_Nc C n9 s)) (hc : gCl[ci]? = some (C, T0, N)) (hq : h q = some (.inr (ci, fs))) (ho : gOld K q = none) (hp : post (.inr q) h) : GX K p e s m args below meth c R nL post h b bs pc lv q := by
  intro H locs ls kc ks rest hH hS hl hb hbs T hT X
  obtain ⟨ce, hcell, hv, hcl⟩ := g_thrown F hH hc hq ho
  have hpl : e.platform.magicAccessors = ({} : Platform).magicAccessors := by rw [X.admits.platform]
  obtain ⟨vm', hW', X', st9⟩ := X.outThrough F.2.2.2.2.2.2.1 q (g := F0 m pc ls rest) rfl rfl rfl (cell := ce) (by rw [hT]; exact hcell) (by rw [hv]; rfl)
    (by obtain ⟨k9, h9, -⟩ := Vm.findClass_spec hcl; exact ⟨k9, h9⟩) (fun z hz => by
      rcases hpass z hz with h9 | ⟨hz0, n9, hl1, hn1⟩
      · exact Or.inl h9
      · obtain ⟨c6, hc6, hcl6⟩ := Cond.classLink_spec F.2.2.2.1 (F.w hl1) e.platform hpl
        obtain ⟨a8, b8, h1, h2, h3⟩ := hn1
        cases Option.some.inj (h1.symm.trans hcl)
        cases Option.some.inj (h2.symm.trans hc6)
        exact Or.inr ⟨hz0, _, hcl6, h3⟩)
  obtain ⟨g₀, hfr⟩ := X'.frames_eq
  have hend : Ended ((T.setVm vm').setFrames (.throwing q :: below)) below (.threw q) := State.frames_setFrames _ (State.cur_lt_of_frames hfr)
  refine ⟨(T.setVm vm').setFrames (.throwing q :: below), ?_, .threw q, X'.here.running, hend, Or.inr ⟨q, h, rfl, hp, ho, ?_, ?_, (X'.ends _).1, locs, (X'.ends _).2.mono (by omega) (by omega), hS.2.2⟩⟩
  · rw [X.pushThrowing_eq]
    exact st9
  · show gH K h T.heap
    rw [hT]; exact hH
  · exact hS.F hT
end GY4
section GY5
variable {K : gK} {p : Program} {e : Env} {s : State} {m : MethodId} {args : Array Value} {below : List Frame} {meth : Method} {c : Code} {R : Room} {nL : Nat} {post : gRes → AH → Prop} {h : AH} {b bs pc : Nat} {lv : List (Nat × Value)} {st : List Value} {cc : ByteArray} {own : String} {ret : Option FieldType}
/-- a call that lands in an interface's default method (follows the kit's vx_callVU and the library's virtualBackUpD) -/
theorem g_callVD {l : Launch} {T : State} {locs : List Loc} {cells slots : Nat} (X : Stand p l e R s m args below meth c T locs cells slots) (hexec : p.tables.exec = Jvm.exec) {own C owner : String} {index : Nat} {x y : MethodName}
    (hown : s.vm.findClass own = some m.cls) (hlink : (Cond.methodLink own index x).before args s = true) (hsame : (Cond.sameMethod x.cls owner x.name x.desc).before args s = true)
    (hd0 : va_Decl s ⟨owner, x.name, x.desc⟩) (howner : owner ≠ "java/lang/invoke/MethodHandle" ∧ owner ≠ "java/lang/invoke/VarHandle")
    (hsel : (Cond.landsInDefault C x y).before args s = true) (hinst : (Cond.instanceMethod y).before args s = true)
    {W : Nat} {Pre : Pt → Array Value → Prop} {Post : Pt → Array Value → Option Value → Pt → Prop} {PostX : Pt → Array Value → Addr → Pt → Prop} (hK : vx_Back l R p e below s args y 3 W Pre Post PostX)
    {b : Addr} {cellB : Cell} (hcell : T.heap[b]? = some cellB) (hobj : cellB.vm.isStatics = false) (hcls : s.vm.findClass C = some cellB.cls)
    {g : JFrame} (hg : g.method = m) (hsize : g.locals.size = c.maxLocals) {argsL rest : List Value} (hlen : ∀ sig, parseMethodDescriptor x.desc = some sig → argsL.length = sig.parameters.length)
    (hstack : g.stack = argsL.reverse ++ .ref b :: rest) (hW : 2 * g.monitorRoom + (rest.map fun v => v.category).sum ≤ W) (hdg : decode c.code g.pc = .ok (.invokevirtual index, 3))
    (hpre : ∀ vm₁, s.WarmedH vm₁ → Pre ⟨T.setVm vm₁, locs, cells, slots⟩ (Value.ref b :: argsL).toArray) :
    (∃ (v : Option Value) (vm₁ : Vm) (B : Pt), s.WarmedH vm₁ ∧ Stand p l e R s m args below meth c B.U B.locs B.cells B.slots ∧ Post ⟨T.setVm vm₁, locs, cells, slots⟩ (Value.ref b :: argsL).toArray v B ∧
      ∀ target, Steps p.tables e below (B.U.setTop { g with pc := g.pc + 3, stack := v.toList ++ rest }) target → Steps p.tables e below (T.setTop g) target) ∨
    (∃ (q : Addr) (vm₁ : Vm) (B : Pt), s.WarmedH vm₁ ∧ Stand p l e R s m args below meth c B.U B.locs B.cells B.slots ∧ PostX ⟨T.setVm vm₁, locs, cells, slots⟩ (Value.ref b :: argsL).toArray q B ∧
      Steps p.tables e below (T.setTop g) ((B.U.setTop { g with stack := rest }).pushFrame (.throwing q))) := by
  obtain ⟨r0, r, hn, hrm, hstR, hsigR⟩ := hd0
  obtain ⟨cn, ck, r1, hcn, hck, hni, hf, hn1⟩ := Cond.sameMethod_found hsame
  cases hn.symm.trans hn1
  obtain ⟨mk, methM, hnamed, hmethM, -, habM⟩ := Cond.instanceMethod_spec hinst
  obtain ⟨c2, r2, m2, rm, q1, q2, q3, q5, q4, ⟨kP, hkP, hkPi⟩, -, q7⟩ := Cond.landsInDefault_spec hsel
  cases hcls.symm.trans q1
  cases hf.symm.trans q2
  cases hnamed.symm.trans q3
  cases hrm.symm.trans q5
  have hselP : selectMethod e.platform s.vm cellB.cls r0 = .method mk := by rw [Launch.admits_selectMethod X.admits]; exact q4
  obtain ⟨vm₁, X₁, hstep₁⟩ := X.invokevirtualUpD hexec hown hlink hsame howner hn hrm hstR (a := b) (cell := cellB) hcell
    (fun z h => by rw [h] at hobj; cases hobj) hselP hmethM habM hkP hkPi q7 (g := g) hg (argsL := argsL) (rest := rest) (hlen _ hsigR) hstack hdg
  rcases hK m meth c ⟨T.setVm vm₁, locs, cells, slots⟩ { g with stack := rest } (.invokevirtual index) mk (Value.ref b :: argsL).toArray X₁ hg hsize hdg hW (X₁.named hnamed) (hpre vm₁ X₁.warmed) with ⟨v, B, X', hpost, hsteps⟩ | ⟨q, B, X', hpost, hsteps⟩
  · exact Or.inl ⟨v, vm₁, B, X₁.warmed, X', hpost, fun target h => hstep₁ _ fun acts => by rw [doInvoke_state]; exact hsteps.trans h⟩
  · exact Or.inr ⟨q, vm₁, B, X₁.warmed, X', hpost, hstep₁ _ fun acts => by rw [doInvoke_state]; exact hsteps⟩
theorem g_callUD {x y : MethodName} {bytes : ByteArray} {r0 : Option FieldType} {maxL n index f lo mc ms ci N a : Nat} {C owner : String} {T0 : u_T} {fs As st0 : List Value} {postc : gRes → AH → Prop} (F : gFix K p s m args meth c cc nL own ret) (hd : decode cc pc = .ok (.invokevirtual index, 3)) (mi : gMi y (Cond.code y bytes maxL r0) maxL n) (hdx : y.desc = x.desc) (hlk : (Cond.methodLink own index x).before args s = true) (hsm : (Cond.sameMethod x.cls owner x.name x.desc).before args s = true) (hdc : va_Decl s ⟨owner, x.name, x.desc⟩) (howner : owner ≠ "java/lang/invoke/MethodHandle" ∧ owner ≠ "java/lang/invoke/VarHandle") (hin : Cond.instanceMethod y ∈ lw_all) (hse : (Cond.landsInDefault C x y).before args s = true) (hC : gCl[ci]? = some (C, T0, N)) (ha : h a = some (.inr (ci, fs)))
    (ct : gCt K y (Cond.code y bytes maxL r0) f lo mc ms h (.ref a :: As) postc) (hst : st0 = As.reverse ++ .ref a :: st) (hn : As.length = n) (hW : (st.map fun v => v.category).sum ≤ 8) (hfr : f + 1 ≤ R.frames) (hlo : 8 + (maxL + 11) + lo ≤ R.locals)
    (kk : ∀ (v : Option Value) (h1 : AH), postc (.inl v) h1 → G K p e s m args below meth c R nL post h1 b bs (pc + 3) lv (v.toList ++ st)) (kx : ∀ (q : Nat) (h1 : AH), postc (.inr q) h1 → gOld K q = none → GX K p e s m args below meth c R nL post h1 b bs pc lv q) : G K p e s m args below meth c R nL post h (b + mc) (bs + ms) pc lv st0 := by
  intro H locs ls kc ks hH hS hl hb hbs T hT X
  have hK : vx_Back K.1 R p e below s args y 3 8 (gPreA K R mc ms h (.ref a :: As)) (gPostA K mc ms postc) (gPostX K mc ms postc) := mi.back F ct hfr hlo
  obtain ⟨cell, g1, g2, g3⟩ := grecv F hH hS hC ha
  refine g_fin (a := (Value.ref a :: As).toArray) hT hS hl hb hbs kk kx ?_
  have hpre : ∀ vm₁, s.WarmedH vm₁ → gPreA K R mc ms h (.ref a :: As) ⟨T.setVm vm₁, locs, kc, ks⟩ (Value.ref a :: As).toArray := fun vm₁ hW1 => ⟨by show kc + mc ≤ R.cells; omega, by show ks + ms ≤ R.slots; omega, F.pre hH hS hT hW1⟩
  have hlen := mi.len hn
  exact g_callVD X F.1 F.2.2.2.1 hlk hsm hdc howner hse (F.w hin) hK (by rw [hT]; exact g1) g2 g3 (g := F0 m pc ls st0) rfl (by rw [F.2.2.1]; exact hl.1) (argsL := As) (rest := st) (by rw [← hdx]; exact hlen) hst (by show 2 * (F0 m pc ls st0).monitorRoom + _ ≤ 8; have h0 : (F0 m pc ls st0).monitorRoom = 0 := rfl; omega) (by rw [F.2.1]; exact hd) hpre
theorem gFix.dfl (F : gFix K p s m args meth c cc nL own ret) {w : Cond} (hw : w ∈ gDfl) (ho : w.onTables = true) : w.before args s = true := (F.hN.2.2.2.2.1 w hw).use ho
theorem gFix.land (F : gFix K p s m args meth c cc nL own ret) {C : String} {x y : MethodName} (hw : Cond.landsInDefault C x y ∈ gDfl) : (Cond.landsInDefault C x y).before args s = true := F.hN.2.2.2.2.1 _ hw
end GY5
