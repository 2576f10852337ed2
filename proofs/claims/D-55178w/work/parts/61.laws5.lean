/-! ===== WHAT THE CHANGES DO TO THE THINGS ===== -/
theorem mOn_c {f g : Nat → Int32} {nb : Nat} (hb : nb ≤ 8) (e : ∀ j, 11 ≤ j → j < 43 → g j = f j) : mOn g nb = mOn f nb := mSum_c (fun k hk => e _ (by omega) (by omega))
theorem mLoad_c {f g : Nat → Int32} {nc : Nat} {x : Int32} (hc : nc ≤ 12) (e : ∀ j, 43 ≤ j → j < 67 → g j = f j) : mLoad g nc x = mLoad f nc x := mSum_c (fun k hk => by
  show (if _ then _ else _) = (if _ then _ else _)
  rw [e _ (by omega) (by omega), e _ (by omega) (by omega)])
theorem mCnt_c {f g : Nat → Int32} {nc : Nat} {x : Int32} (hc : nc ≤ 12) (e : ∀ j, 43 ≤ j → j < 67 → g j = f j) : mCnt g nc x = mCnt f nc x := mSum_c (fun k hk => by
  show (if _ then _ else _) = (if _ then _ else _)
  rw [e _ (by omega) (by omega)])
theorem mOn_w {f : Nat → Int32} {nb i : Nat} {x : Int32} (hi : i < nb) : mOn (upd f (12 + 4 * i) x) nb = mOn f nb - f (12 + 4 * i) + x := by
  unfold mOn
  rw [mSum_upd (g := fun k => f (12 + 4 * k)) hi (fun k _ hne => pk_un (by omega)), pk_us]
theorem hang_l {f : Nat → Int32} {nc c i j : Nat} (hc : c < nc) (hi : i < 8) (hj : j < 8) (h : f (44 + 2 * c) = -1) : mLoad (upd f (44 + 2 * c) (nI i)) nc (nI j) = (if j = i then mLoad f nc (nI j) + 1 * f (43 + 2 * c) else mLoad f nc (nI j)) ∧ mCnt (upd f (44 + 2 * c) (nI i)) nc (nI j) = (if j = i then mCnt f nc (nI j) + 1 else mCnt f nc (nI j)) := by
  rw [mLoad_h hc, mCnt_h hc, h, if_neg (nI_m1 (by omega)), if_neg (nI_m1 (by omega))]
  by_cases q : j = i
  · subst q; rw [if_pos rfl, if_pos rfl, if_pos rfl, if_pos rfl]; simp
  · rw [if_neg (fun z => q ((nI_eq (by omega) (by omega)).mp z).symm), if_neg (fun z => q ((nI_eq (by omega) (by omega)).mp z).symm), if_neg q, if_neg q]; simp
theorem neg1_mul {x : Int32} : (-1 : Int32) * x = -x := by
  rw [Int32.neg_mul, Int32.one_mul]
theorem drop_l {f : Nat → Int32} {nc c i j : Nat} (hc : c < nc) (hi : i < 8) (hj : j < 8) (h : f (44 + 2 * c) = nI i) : mLoad (upd f (44 + 2 * c) (-1)) nc (nI j) = (if j = i then mLoad f nc (nI j) + (-1) * f (43 + 2 * c) else mLoad f nc (nI j)) ∧ mCnt (upd f (44 + 2 * c) (-1)) nc (nI j) = (if j = i then mCnt f nc (nI j) + (-1) else mCnt f nc (nI j)) := by
  rw [mLoad_h hc, mCnt_h hc, h, if_neg (nI_m1 (by omega) : ¬ (-1 : Int32) = nI j), if_neg (nI_m1 (by omega) : ¬ (-1 : Int32) = nI j)]
  by_cases q : j = i
  · subst q; rw [if_pos rfl, if_pos rfl, if_pos rfl, if_pos rfl, neg1_mul]; simp [Int32.sub_eq_add_neg]
  · rw [if_neg (fun z => q ((nI_eq (by omega) (by omega)).mp z).symm), if_neg (fun z => q ((nI_eq (by omega) (by omega)).mp z).symm), if_neg q, if_neg q]; simp
/-- the rows and their lists -/
def thW (K : gK) (N : Nat → Prop) (h : AH) (A : Nat → Nat → Nat) (o : Nat → Nat) (nb nc nh nq : Nat) : Prop := (∀ j, j < 4 → h (A 0 j) = some (.inr (3, [.ref (A 1 j), .int (tMo j)]))) ∧ ∃ MD : Nat → Int32, ∀ j, j < 4 → lsO K N h (A 1 j) (A 2 j) (tC nb nc nh nq j) (tLi A o j) (MD j)
theorem thW.up {K : gK} {N : Nat → Prop} {h h' : AH} {A : Nat → Nat → Nat} {o : Nat → Nat} {nb nc nh nq : Nat} (e : gE h h') (x : thW K N h A o nb nc nh nq) : thW K N h' A o nb nc nh nq := by
  obtain ⟨h3, MD, h4⟩ := x
  exact ⟨fun j hj => e _ _ (h3 j hj), MD, fun j hj => (h4 j hj).up e⟩
theorem thW.oth {K : gK} {N : Nat → Prop} {h h1 : AH} {A : Nat → Nat → Nat} {o : Nat → Nat} {nb nc nh nq x ci : Nat} {fs gs : List Value} (e1 : h1 = gu h x (.inr (ci, gs))) (hx : h x = some (.inr (ci, fs))) (hc : ci ∉ [3, 4]) (t : thW K N h A o nb nc nh nq) : thW K N h1 A o nb nc nh nq := by
  simp only [List.mem_cons, List.not_mem_nil, or_false, not_or] at hc
  obtain ⟨h3, MD, h4⟩ := t
  exact ⟨fun j hj => gu_t e1 (h3 j hj) (gne (h3 j hj) hx (fun z => hc.1 z.symm)), MD, fun j hj => (h4 j hj).oth e1 hx hc.2⟩
/-- an array of another kind written -/
theorem thW.otA {K : gK} {N : Nat → Prop} {h h1 : AH} {A : Nat → Nat → Nat} {o : Nat → Nat} {nb nc nh nq x t m m2 : Nat} {d d2 : (Nat → Int32) ⊕ (Nat → Int64) ⊕ (Nat → UInt32) ⊕ (Nat → UInt64) ⊕ (Nat → Option Nat)} (hinj : ∀ i j, i < 8 → j < 8 → gT K i = gT K j → i = j) (e1 : h1 = gu h x (.inl (gT K t, m, d))) (hx : h x = some (.inl (gT K t, m2, d2))) (hc : t < 8 ∧ t ≠ 6) (y : thW K N h A o nb nc nh nq) : thW K N h1 A o nb nc nh nq := by
  obtain ⟨h3, MD, h4⟩ := y
  refine ⟨fun j hj => gu_t e1 (h3 j hj) (gneA (h3 j hj) hx), MD, fun j hj => ?_⟩
  obtain ⟨q1, q2, q3, q4⟩ := h4 j hj
  refine ⟨gu_t e1 q1 (gneA q1 hx), q2, q3, ?_⟩
  rcases q4 with q | ⟨r1, r2, r3, r4⟩
  · exact .inl q
  · refine .inr ⟨r1, r2, r3, gu_t e1 r4 ?_⟩
    intro z
    rw [z, hx] at r4
    have := Option.some.inj r4
    injection this with e2
    exact hc.2 (hinj t 6 hc.1 (by decide) (congrArg Prod.fst e2))
theorem tDo.ot2 {K : gK} {N : Nat → Prop} {h h1 : AH} {a x ci : Nat} {f : Nat → Int32} {fs gs : List Value} (e1 : h1 = gu h x (.inr (ci, gs))) (hx : h x = some (.inr (ci, fs))) (_ : ci ∉ [100]) (t : tDo K N h a f) : tDo K N h1 a f := t.oth e1 hx
theorem tDo.c {K : gK} {N : Nat → Prop} {h : AH} {a : Nat} {f g : Nat → Int32} (t : tDo K N h a f) (e : ∀ j, 79 ≤ j → j < 83 → g j = f j) : tDo K N h a g := by
  obtain ⟨dz, h1, h2, h3, h4⟩ := t
  exact ⟨dz, h1, h2, h3, fun k hk => by rw [h4 k hk, e _ (by omega) (by omega)]⟩
theorem tLs.otA {h h1 : AH} {ci n x : Nat} {l : Nat → Nat} {V : Nat → List Value} {y z : ClassId × vp_A} (e1 : h1 = gu h x (.inl y)) (hx : h x = some (.inl z)) (t : tLs h ci n l V) : tLs h1 ci n l V := fun i hi => gu_t e1 (t i hi) (gneA (t i hi) hx)
theorem th.w {K : gK} {N : Nat → Prop} {h : AH} {A : Nat → Nat → Nat} {o : Nat → Nat} {f : Nat → Int32} {nb nc nh nq : Nat} (x : th K N h A o f nb nc nh nq) : thW K N h A o nb nc nh nq := ⟨x.2.1, x.2.2.1⟩
theorem th.of {K : gK} {N : Nat → Prop} {h : AH} {A : Nat → Nat → Nat} {o : Nat → Nat} {f : Nat → Int32} {nb nc nh nq : Nat} (T0 : h (A 7 1) = some (.inr (2, vT f nb A))) (TN : N (A 7 1)) (W : thW K N h A o nb nc nh nq) (D : tDo K N h (A 7 0) f) (B : tLs h 9 nb (A 3) (vB f nc)) (BN : ∀ i, i < nb → N (A 3 i)) (C : tLs h 10 nc (A 4) (vC f)) (CN : ∀ i, i < nc → N (A 4 i)) (H : tLs h 11 nh (A 5) (vH f)) (HN : ∀ i, i < nh → N (A 5 i)) (Q : tLs h 12 nq (A 6) (vQ f)) (Dj : tDj A nb nc nh nq) (Sg : sPerm o nq) : th K N h A o f nb nc nh nq :=
  ⟨⟨T0, TN⟩, W.1, W.2, D, ⟨B, BN⟩, ⟨C, CN⟩, ⟨H, HN⟩, Q, Dj, Sg⟩
theorem vB_c {f g : Nat → Int32} {nc i : Nat} (hc : nc ≤ 12) (e : ∀ j, (43 ≤ j ∧ j < 67) ∨ (11 + 4 * i ≤ j ∧ j < 15 + 4 * i) → g j = f j) : vB f nc i = vB g nc i := by
  unfold vB
  rw [mLoad_c hc (fun j h1 h2 => e j (.inl ⟨h1, h2⟩)), mCnt_c hc (fun j h1 h2 => e j (.inl ⟨h1, h2⟩)), e _ (by omega), e _ (by omega), e _ (by omega), e _ (by omega)]
theorem vC_c {f g : Nat → Int32} {i : Nat} (e : ∀ j, 43 + 2 * i ≤ j → j < 45 + 2 * i → g j = f j) : vC f i = vC g i := by
  unfold vC; rw [e _ (by omega) (by omega), e _ (by omega) (by omega)]
theorem vH_c {f g : Nat → Int32} {i : Nat} (e : ∀ j, 67 + 2 * i ≤ j → j < 69 + 2 * i → g j = f j) : vH f i = vH g i := by
  unfold vH; rw [e _ (by omega) (by omega), e _ (by omega) (by omega)]
theorem vQ_c {f g : Nat → Int32} {i : Nat} (e : ∀ j, 83 + 4 * i ≤ j → j < 87 + 4 * i → g j = f j) : vQ f i = vQ g i := by
  unfold vQ; rw [e _ (by omega) (by omega), e _ (by omega) (by omega), e _ (by omega) (by omega), e _ (by omega) (by omega)]
/-! what a change answers and leaves -/
/-- the theatre at t, in the state f -/
def thE (K : gK) (N : Nat → Prop) (h : AH) (t : Nat) (f : Nat → Int32) : Prop := ∃ (A : Nat → Nat → Nat) (o : Nat → Nat) (nb nc nh nq : Nat), A 7 1 = t ∧ mC f nb nc nh nq ∧ th K N h A o f nb nc nh nq
def xS (K : gK) (h0 : AH) (t : Nat) (r : xR) (v : Option Value) (h9 : AH) : Prop := match r with
  | .inl (a, f') => v = some (.int a) ∧ gE h0 h9 ∧ thE K (gNw K h0) h9 t f'
  | .inr _ => False
def xTh (h0 : AH) (E : Nat → Nat) (r : xR) (q : Nat) (h9 : AH) : Prop := match r with
  | .inl _ => False
  | .inr (p, none) => tX h0 (E p) [] q h9
  | .inr (_, some (a, b)) => tX h0 20 [.null, .null, .null, .null, .null, .int 0, .int a, .int b] q h9
/-- a change: answers and leaves the theatre at t in the new state, or throws -/
abbrev pM (K : gK) (h0 : AH) (t : Nat) (E : Nat → Nat) (r : xR) : gRes → AH → Prop := pT (xS K h0 t r) (xTh h0 E r)
theorem xS_i {K : gK} {h0 : AH} {t : Nat} {r : xR} {a : Int32} {f' : Nat → Int32} {h9 : AH} (hr : r = .inl (a, f')) (e : gE h0 h9) (T : thE K (gNw K h0) h9 t f') : xS K h0 t r (some (.int a)) h9 := by
  rw [hr]; exact ⟨rfl, e, T⟩
theorem xTh_n {h0 : AH} {E : Nat → Nat} {r : xR} {p q : Nat} {h9 : AH} (hr : r = .inr (p, none)) (x : tX h0 (E p) [] q h9) : xTh h0 E r q h9 := by
  rw [hr]; exact x
theorem xTh_s {h0 : AH} {E : Nat → Nat} {r : xR} {p q : Nat} {a b : Int32} {h9 : AH} (hr : r = .inr (p, some (a, b))) (x : tX h0 20 [.null, .null, .null, .null, .null, .int 0, .int a, .int b] q h9) : xTh h0 E r q h9 := by
  rw [hr]; exact x
theorem st_w {M w m : Int32} : 60 - (M - w + (w + m)) = 60 - M - m := by
  have e : M - w + (w + m) = M + m := by rw [← Int32.add_assoc, Int32.sub_add_cancel]
  rw [e]
  simp only [Int32.sub_eq_add_neg, Int32.neg_add, Int32.add_assoc]
theorem xN_0 {x : Int32} {M : Nat} (h : xN x M) (hM : M < 2 ^ 31) (q : x ≤ 0) : x = 0 := by
  obtain ⟨j, hj, rfl⟩ := h
  rcases Nat.eq_zero_or_pos j with z | z
  · rw [z]; rfl
  · exact absurd q (nI_nle z (by omega))
theorem xN_p {x : Int32} {M : Nat} (h : xN x M) (hM : M < 2 ^ 31) (q : x ≠ 0) : 0 < x := by
  refine Int32.not_le.mp (fun z => q (xN_0 h hM z))
theorem yr_k {f : Nat → Int32} {x : Int32} {k : Nat} (j : Nat) (h : j ≠ 13 + 4 * k) : xYrs f x (k + 1) j = xYrs f x k j := pk_un h
theorem yr_s {f : Nat → Int32} {x : Int32} {k : Nat} : xYrs f x (k + 1) (13 + 4 * k) = f (13 + 4 * k) + x := by
  show upd (xYrs f x k) (13 + 4 * k) (xYrs f x k (13 + 4 * k) + x) (13 + 4 * k) = _
  rw [pk_us, xYrs_n (fun i hi => by omega)]
theorem vB_y {f : Nat → Int32} {x : Int32} {nc k : Nat} (hc : nc ≤ 12) (hk : k < 8) : vB (xYrs f x k) nc k = vB f nc k := (vB_c hc (fun j hj => xYrs_n (fun i hi => by omega))).symm
theorem ageV {f : Nat → Int32} {x : Int32} {nc k j : Nat} (hc : nc ≤ 12) (hk : k < 8) : tU (vB (xYrs f x k) nc) k [.int (nI k), .int (f (11 + 4 * k)), .int (mLoad f nc (nI k)), .int (mCnt f nc (nI k)), .int (f (12 + 4 * k)), .int (f (13 + 4 * k) + x), .int (f (14 + 4 * k))] j = vB (xYrs f x (k + 1)) nc j := by
  by_cases q : j = k
  · subst q
    rw [tU_s]
    unfold vB
    rw [mLoad_c hc (fun z h1 h2 => xYrs_n (fun i hi => by omega)), mCnt_c hc (fun z h1 h2 => xYrs_n (fun i hi => by omega)), xYrs_n (j := 11 + 4 * j) (fun i hi => by omega), xYrs_n (j := 12 + 4 * j) (fun i hi => by omega), xYrs_n (j := 14 + 4 * j) (fun i hi => by omega), yr_s]
  · rw [tU_n q]
    exact vB_c hc (fun z hz => yr_k z (by omega))
theorem yr_lacks {f : Nat → Int32} {x : Int32} {nc k Y : Nat} (hc : nc ≤ 12) (hk : k < 8) (hW : iW f nc) (h2 : xN (f (12 + 4 * k)) 20) (h3 : xN (f (13 + 4 * k)) Y) (hx : xN x 9) (hY : Y + 9 ≤ 1000000) : 0 < mLacks (xYrs f x (k + 1)) nc k ↔ mMax 0 (300 - 25 * (f (13 + 4 * k) + x)) < mLoad f nc (nI k) + 10 * f (12 + 4 * k) := by
  have e1 : mLoad (xYrs f x (k + 1)) nc (nI k) = mLoad f nc (nI k) := mLoad_c hc (fun z h1 h2 => xYrs_n (fun i hi => by omega))
  have e2 : xYrs f x (k + 1) (12 + 4 * k) = f (12 + 4 * k) := xYrs_n (fun i hi => by omega)
  have e3 : mBears (xYrs f x (k + 1)) k = mMax 0 (300 - 25 * (f (13 + 4 * k) + x)) := by unfold mBears; rw [yr_s]
  obtain ⟨u, hu, eu⟩ := h3
  obtain ⟨v, hv, ev⟩ := hx
  have := (lacks_iff (f := xYrs f x (k + 1)) (nc := nc) (i := k) ⟨u + v, by omega, by rw [yr_s, eu, ev, nI_add]⟩ (by rw [e2]; exact h2) (by rw [e1]; exact mLoad_b hW hc)).1
  rw [this, e1, e2, e3]
/-- a new curtain hangs nowhere -/
theorem load_new {f : Nat → Int32} {nc i nb : Nat} {w v : Int32} (_ : nb ≤ 8) (hi : i < 8) : mLoad (upd (upd (upd f (43 + 2 * nc) w) (44 + 2 * nc) (-1)) 2 v) (nc + 1) (nI i) = mLoad f nc (nI i) := by
  unfold mLoad
  rw [mSum_s, mSum_c (g := fun k => if f (44 + 2 * k) = nI i then f (43 + 2 * k) else 0) (fun k hk => by
    show (if _ then _ else _) = (if _ then _ else _)
    rw [pk_un (by omega), pk_un (by omega), pk_un (by omega), pk_un (by omega), pk_un (by omega), pk_un (by omega)])]
  rw [if_neg, Int32.add_zero]
  rw [pk_un (by omega), pk_us]
  exact nI_m1 (by omega)
theorem cnt_new {f : Nat → Int32} {nc i nb : Nat} {w v : Int32} (_ : nb ≤ 8) (hi : i < 8) : mCnt (upd (upd (upd f (43 + 2 * nc) w) (44 + 2 * nc) (-1)) 2 v) (nc + 1) (nI i) = mCnt f nc (nI i) := by
  unfold mCnt
  rw [mSum_s, mSum_c (g := fun k => if f (44 + 2 * k) = nI i then 1 else 0) (fun k hk => by
    show (if _ then _ else _) = (if _ then _ else _)
    rw [pk_un (by omega), pk_un (by omega), pk_un (by omega)])]
  rw [if_neg, Int32.add_zero]
  rw [pk_un (by omega), pk_us]
  exact nI_m1 (by omega)
