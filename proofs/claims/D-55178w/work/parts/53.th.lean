/-! ===== THE THEATRE's heap at the state f: A the addresses (0 rows, 1 lists, 2 arrays, 3 bars, 4 curtains, 5 hands, 6 cues by light, 7 0 doors, 7 1 the theatre), o the order in which the cues came ===== -/
def tC (nb nc nh nq : Nat) : Nat → Nat
  | 0 => nb
  | 1 => nc
  | 2 => nh
  | _ => nq
def tMo : Nat → Int32
  | 0 => 8
  | 1 => 12
  | 2 => 6
  | _ => 12
def tLi (A : Nat → Nat → Nat) (o : Nat → Nat) : Nat → Nat → Nat
  | 0 => A 3
  | 1 => A 4
  | 2 => A 5
  | _ => fun i => A 6 (o i)
def vB (f : Nat → Int32) (nc i : Nat) : List Value := [.int (nI i), .int (f (11 + 4 * i)), .int (mLoad f nc (nI i)), .int (mCnt f nc (nI i)), .int (f (12 + 4 * i)), .int (f (13 + 4 * i)), .int (f (14 + 4 * i))]
def vC (f : Nat → Int32) (i : Nat) : List Value := [.int (nI i), .int (f (43 + 2 * i)), .int (f (44 + 2 * i))]
def vH (f : Nat → Int32) (i : Nat) : List Value := [.int (nI i), .int (f (68 + 2 * i)), .int (f (67 + 2 * i))]
def vQ (f : Nat → Int32) (i : Nat) : List Value := [.int (f (83 + 4 * i)), .int (f (84 + 4 * i)), .int (f (85 + 4 * i)), .int (f (86 + 4 * i))]
def vT (f : Nat → Int32) (nb : Nat) (A : Nat → Nat → Nat) : List Value := [.ref (A 0 0), .ref (A 0 1), .ref (A 0 2), .ref (A 0 3), .ref (A 7 0), .int (f 5), .int (60 - mOn f nb), .int (f 6), .int (f 0), .int (f 7), .int (f 8), .int (f 10)]
/-- the four lists lie apart -/
def tDj (A : Nat → Nat → Nat) (nb nc nh nq : Nat) : Prop := ∀ i j, i < 4 → j < 4 → i ≠ j → A 1 i ≠ A 1 j ∧ (0 < tC nb nc nh nq i → 0 < tC nb nc nh nq j → A 2 i ≠ A 2 j)
def tDo (K : gK) (N : Nat → Prop) (h : AH) (a : Nat) (f : Nat → Int32) : Prop := ∃ dz : Nat → Int32, h a = some (.inl (gT K 2, 4, .inl dz)) ∧ N a ∧ gOld K a = none ∧ ∀ k, k < 4 → dz k = f (79 + k)
def th (K : gK) (N : Nat → Prop) (h : AH) (A : Nat → Nat → Nat) (o : Nat → Nat) (f : Nat → Int32) (nb nc nh nq : Nat) : Prop :=
  (h (A 7 1) = some (.inr (2, vT f nb A)) ∧ N (A 7 1)) ∧
  (∀ j, j < 4 → h (A 0 j) = some (.inr (3, [.ref (A 1 j), .int (tMo j)]))) ∧
  (∃ MD : Nat → Int32, ∀ j, j < 4 → lsO K N h (A 1 j) (A 2 j) (tC nb nc nh nq j) (tLi A o j) (MD j)) ∧
  tDo K N h (A 7 0) f ∧
  (tLs h 9 nb (A 3) (vB f nc) ∧ ∀ i, i < nb → N (A 3 i)) ∧
  (tLs h 10 nc (A 4) (vC f) ∧ ∀ i, i < nc → N (A 4 i)) ∧
  (tLs h 11 nh (A 5) (vH f) ∧ ∀ i, i < nh → N (A 5 i)) ∧
  tLs h 12 nq (A 6) (vQ f) ∧ tDj A nb nc nh nq ∧ sPerm o nq
theorem tDo.up {K : gK} {N : Nat → Prop} {h h' : AH} {a : Nat} {f : Nat → Int32} (e : gE h h') (x : tDo K N h a f) : tDo K N h' a f := by
  obtain ⟨dz, h1, h2⟩ := x
  exact ⟨dz, e _ _ h1, h2⟩
theorem tDo.oth {K : gK} {N : Nat → Prop} {h h1 : AH} {a x ci : Nat} {f : Nat → Int32} {fs gs : List Value} (e1 : h1 = gu h x (.inr (ci, gs))) (hx : h x = some (.inr (ci, fs))) (t : tDo K N h a f) : tDo K N h1 a f := by
  obtain ⟨dz, q1, q2⟩ := t
  exact ⟨dz, gu_t e1 q1 (gneB q1 hx), q2⟩
theorem th.up {K : gK} {N : Nat → Prop} {h h' : AH} {A : Nat → Nat → Nat} {o : Nat → Nat} {f : Nat → Int32} {nb nc nh nq : Nat} (e : gE h h') (x : th K N h A o f nb nc nh nq) : th K N h' A o f nb nc nh nq := by
  obtain ⟨⟨h1, h2⟩, h3, ⟨MD, h4⟩, h5, ⟨h6, h7⟩, ⟨h8, h9⟩, ⟨h10, h11⟩, h12, h13, h14⟩ := x
  exact ⟨⟨e _ _ h1, h2⟩, fun j hj => e _ _ (h3 j hj), ⟨MD, fun j hj => (h4 j hj).up e⟩, h5.up e, ⟨h6.up e, h7⟩, ⟨h8.up e, h9⟩, ⟨h10.up e, h11⟩, h12.up e, h13, h14⟩
theorem th.N {K : gK} {N N' : Nat → Prop} {h : AH} {A : Nat → Nat → Nat} {o : Nat → Nat} {f : Nat → Int32} {nb nc nh nq : Nat} (w : ∀ x, N x → N' x) (x : th K N h A o f nb nc nh nq) : th K N' h A o f nb nc nh nq := by
  obtain ⟨⟨h1, h2⟩, h3, ⟨MD, h4⟩, ⟨dz, z1, z2, z3⟩, ⟨h6, h7⟩, ⟨h8, h9⟩, ⟨h10, h11⟩, h12, h13, h14⟩ := x
  exact ⟨⟨h1, w _ h2⟩, h3, ⟨MD, fun j hj => (h4 j hj).N w⟩, ⟨dz, z1, w _ z2, z3⟩, ⟨h6, fun i hi => w _ (h7 i hi)⟩, ⟨h8, fun i hi => w _ (h9 i hi)⟩, ⟨h10, fun i hi => w _ (h11 i hi)⟩, h12, h13, h14⟩
/-- a thing of another class changed -/
theorem th.oth {K : gK} {N : Nat → Prop} {h h1 : AH} {A : Nat → Nat → Nat} {o : Nat → Nat} {f : Nat → Int32} {nb nc nh nq x ci : Nat} {fs gs : List Value} (e1 : h1 = gu h x (.inr (ci, gs))) (hx : h x = some (.inr (ci, fs))) (hc : ci ∉ [2, 3, 4, 9, 10, 11, 12]) (t : th K N h A o f nb nc nh nq) : th K N h1 A o f nb nc nh nq := by
  simp only [List.mem_cons, List.not_mem_nil, or_false, not_or] at hc
  obtain ⟨c2, c3, c4, c9, c10, c11, c12⟩ := hc
  obtain ⟨⟨h1, h2⟩, h3, ⟨MD, h4⟩, h5, ⟨h6, h7⟩, ⟨h8, h9⟩, ⟨h10, h11⟩, h12, h13, h14⟩ := t
  exact ⟨⟨gu_t e1 h1 (gne h1 hx (fun z => c2 z.symm)), h2⟩, fun j hj => gu_t e1 (h3 j hj) (gne (h3 j hj) hx (fun z => c3 z.symm)), ⟨MD, fun j hj => (h4 j hj).oth e1 hx c4⟩, h5.oth e1 hx, ⟨h6.oth e1 hx c9, h7⟩, ⟨h8.oth e1 hx c10, h9⟩, ⟨h10.oth e1 hx c11, h11⟩, h12.oth e1 hx c12, h13, h14⟩
/-- one of four -/
theorem four {P : Nat → Prop} (p0 : P 0) (p1 : P 1) (p2 : P 2) (p3 : P 3) : ∀ j, j < 4 → P j := by
  intro j hj
  rcases (show j = 0 ∨ j = 1 ∨ j = 2 ∨ j = 3 by omega) with rfl | rfl | rfl | rfl
  · exact p0
  · exact p1
  · exact p2
  · exact p3
/-- numbered things lie apart -/
theorem tLs.ne {h : AH} {ci n i j : Nat} {l : Nat → Nat} {V : Nat → List Value} (t : tLs h ci n l V) (hi : i < n) (hj : j < n) (e : V i ≠ V j) : l i ≠ l j := by
  intro z
  have q1 := t i hi
  rw [z, t j hj] at q1
  exact e (by injection q1 with q1; injection q1 with q1; exact (congrArg Prod.snd q1).symm)
theorem vB_ne {f : Nat → Int32} {nc i j : Nat} (hi : i < 2 ^ 31) (hj : j < 2 ^ 31) (h : i ≠ j) : vB f nc i ≠ vB f nc j := by
  intro z
  have : nI i = nI j := by
    unfold vB at z
    injection z with z _
    injection z
  exact h ((nI_eq hi hj).mp this)
theorem vC_ne {f : Nat → Int32} {i j : Nat} (hi : i < 2 ^ 31) (hj : j < 2 ^ 31) (h : i ≠ j) : vC f i ≠ vC f j := by
  intro z
  have : nI i = nI j := by
    unfold vC at z
    injection z with z _
    injection z
  exact h ((nI_eq hi hj).mp this)
theorem vH_ne {f : Nat → Int32} {i j : Nat} (hi : i < 2 ^ 31) (hj : j < 2 ^ 31) (h : i ≠ j) : vH f i ≠ vH f j := by
  intro z
  have : nI i = nI j := by
    unfold vH at z
    injection z with z _
    injection z
  exact h ((nI_eq hi hj).mp this)
/-- the i-th thing's fields changed -/
def tU (V : Nat → List Value) (i : Nat) (W : List Value) : Nat → List Value := fun j => if j = i then W else V j
theorem tU_s {V : Nat → List Value} {i : Nat} {W : List Value} : tU V i W i = W := if_pos rfl
theorem tU_n {V : Nat → List Value} {i j : Nat} {W : List Value} (h : j ≠ i) : tU V i W j = V j := if_neg h
theorem tLs.put {h h1 : AH} {ci n i : Nat} {l : Nat → Nat} {V : Nat → List Value} {W : List Value} (e1 : h1 = gu h (l i) (.inr (ci, W))) (hne : ∀ j, j < n → j ≠ i → l j ≠ l i) (t : tLs h ci n l V) : tLs h1 ci n l (tU V i W) := by
  intro j hj
  by_cases q : j = i
  · subst q; rw [tU_s]; exact gu_a e1
  · rw [tU_n q]; exact gu_t e1 (t j hj) (hne j hj q)
theorem tLs.c {h : AH} {ci n : Nat} {l : Nat → Nat} {V V' : Nat → List Value} (t : tLs h ci n l V) (e : ∀ i, i < n → V i = V' i) : tLs h ci n l V' := fun i hi => by rw [← e i hi]; exact t i hi
theorem tLs.cl {h : AH} {ci n : Nat} {l l' : Nat → Nat} {V : Nat → List Value} (t : tLs h ci n l V) (e : ∀ i, i < n → l i = l' i) : tLs h ci n l' V := fun i hi => by rw [← e i hi]; exact t i hi
