/-! ===== CHANGES BY THEIR WORDS ===== -/
theorem xS_e {K : gK} {h0 : AH} {t : Nat} {r : xR} {v : Option Value} {h9 : AH} (x : xS K h0 t r v h9) : ∃ (a : Int32) (f' : Nat → Int32), r = .inl (a, f') ∧ v = some (.int a) ∧ gE h0 h9 ∧ thE K (gNw K h0) h9 t f' := by
  rcases r with ⟨a, f'⟩ | q
  · exact ⟨a, f', rfl, x⟩
  · exact absurd x id
theorem xTh_e {h0 : AH} {E : Nat → Nat} {r : xR} {q : Nat} {h9 : AH} (x : xTh h0 E r q h9) : (∃ p, r = .inr (p, none) ∧ tX h0 (E p) [] q h9) ∨ ∃ (p : Nat) (a b : Int32), r = .inr (p, some (a, b)) ∧ tX h0 20 [.null, .null, .null, .null, .null, .int 0, .int a, .int b] q h9 := by
  rcases r with z | ⟨p, d⟩
  · exact absurd x id
  · rcases d with _ | ⟨a, b⟩
    · exact .inl ⟨p, rfl, x⟩
    · exact .inr ⟨p, a, b, rfl, x⟩
/-- the exceptions that changes throw -/
def xEs (E : Nat → Nat) : Prop := ∀ p, E p = 22 ∨ E p = 23 ∨ E p = 24
theorem xTh_any {h0 : AH} {E : Nat → Nat} {r : xR} {q : Nat} {h9 : AH} (hE : xEs E) (x : xTh h0 E r q h9) : ∃ (ci : Nat) (fs : List Value) (C : String) (T : u_T) (N : Nat), gCl[ci]? = some (C, T, N) ∧ h9 q = some (.inr (ci, fs)) := by
  rcases xTh_e x with ⟨p, -, y⟩ | ⟨p, a, b, -, y⟩
  · rcases hE p with e | e | e
    · exact ⟨22, [], _, _, _, gc_J19, by rw [← e]; exact y.1⟩
    · exact ⟨23, [], _, _, _, gc_J21, by rw [← e]; exact y.1⟩
    · exact ⟨24, [], _, _, _, gc_J23, by rw [← e]; exact y.1⟩
  · exact ⟨20, _, _, _, _, gc_X10, y.1⟩
theorem mC_u {f : Nat → Int32} {a b c d a' b' c' d' : Nat} (h : mC f a b c d) (h' : mC f a' b' c' d') : a = a' ∧ b = b' ∧ c = c' ∧ d = d' := by
  obtain ⟨p1, p2, p3, p4, p5, p6, p7, p8⟩ := h
  obtain ⟨q1, q2, q3, q4, q5, q6, q7, q8⟩ := h'
  exact ⟨(nI_eq (by omega) (by omega)).mp (p1.symm.trans q1), (nI_eq (by omega) (by omega)).mp (p3.symm.trans q3), (nI_eq (by omega) (by omega)).mp (p5.symm.trans q5), (nI_eq (by omega) (by omega)).mp (p7.symm.trans q7)⟩
theorem thE.get {K : gK} {N : Nat → Prop} {h : AH} {t : Nat} {f : Nat → Int32} {nb nc nh nq : Nat} (x : thE K N h t f) (hC : mC f nb nc nh nq) : ∃ (A : Nat → Nat → Nat) (o : Nat → Nat), A 7 1 = t ∧ th K N h A o f nb nc nh nq := by
  obtain ⟨A, o, b, c, d, q, e, hC2, T⟩ := x
  obtain ⟨rfl, rfl, rfl, rfl⟩ := mC_u hC hC2
  exact ⟨A, o, e, T⟩
theorem thE.up {K : gK} {N : Nat → Prop} {h h' : AH} {t : Nat} {f : Nat → Int32} (e : gE h h') (x : thE K N h t f) : thE K N h' t f := by
  obtain ⟨A, o, b, c, d, q, e2, hC2, T⟩ := x
  exact ⟨A, o, b, c, d, q, e2, hC2, T.up e⟩
theorem thE.N {K : gK} {N N' : Nat → Prop} {h : AH} {t : Nat} {f : Nat → Int32} (w : ∀ x, N x → N' x) (x : thE K N h t f) : thE K N' h t f := by
  obtain ⟨A, o, b, c, d, q, e2, hC2, T⟩ := x
  exact ⟨A, o, b, c, d, q, e2, hC2, T.N w⟩
theorem thE.oth {K : gK} {N : Nat → Prop} {h h1 : AH} {t x ci : Nat} {f : Nat → Int32} {fs gs : List Value} (e1 : h1 = gu h x (.inr (ci, gs))) (hx : h x = some (.inr (ci, fs))) (hc : ci ∉ [2, 3, 4, 9, 10, 11, 12]) (y : thE K N h t f) : thE K N h1 t f := by
  obtain ⟨A, o, b, c, d, q, e2, hC2, T⟩ := y
  exact ⟨A, o, b, c, d, q, e2, hC2, T.oth e1 hx hc⟩
theorem xGo_s {f : Nat → Int32} {nc nh nq p : Nat} {d : Option (Int32 × Int32)} (h : xGo f nc nh nq = .inr (p, d)) : d ≠ none := by
  rintro rfl
  unfold xGo at h
  split at h
  · cases h
  · unfold xGo1 at h
    split at h
    · split at h <;> cases h
    · cases h
theorem pl_s {f g : Nat → Int32} {nb nc nh nq k : Nat} {a : Int32} (hC : mC f nb nc nh nq) (hL : mL f nb nc nq) (h : xGo f nc nh nq = .inl (a, g)) (hk : k + xAh f nq ≤ 12) : k + qPl nc nh nq (xAh f nq) f = (k + 1) + qPl nc nh nq (xAh g nq) g ∧ (k + 1) + xAh g nq ≤ 12 ∧ k < 12 := by
  have h1 := (xGo_keep hL hC.2.1 h).2
  obtain ⟨n, hn⟩ : ∃ n, xAh f nq = n + 1 := ⟨xAh f nq - 1, by omega⟩
  have h2 := xGo_C hC hL h
  rw [hn, qPl_l h, qPl_f h2.1 h2.2 (n := n) (m := xAh g nq) (by omega) (by omega)]
  omega
def mkR (f : Nat → Int32) (nb nc nh nq id : Nat) (a b : Int32) : xR := match id with
  | 7 => xTold f a
  | 9 => xHang f nb nc a b
  | 10 => xDrop f nc a
  | 11 => xWts f nb a b
  | 12 => xWts f nb a (-b)
  | 13 => xFly f nb nc nh a b
  | 14 => xGo f nc nh nq
  | 15 => xDoor f a 1
  | 16 => xDoor f a 0
  | 17 => xYear f nb nc a
  | 18 => xBar f nb
  | 19 => xRope f nb a
  | 20 => xCurtain f nc a
  | 21 => xHand f nh a b
  | _ => xMove f nh a b
def mkE (id : Nat) : Nat → Nat := match id with
  | 7 => fun _ => 22
  | 11 => fun z => if z = 1 then 23 else 22
  | 12 => fun z => if z = 1 then 23 else 22
  | 13 => fun z => if z = 1 then 23 else 22
  | 14 => fun _ => 22
  | 17 => fun _ => 22
  | 18 => fun _ => 24
  | 20 => fun z => if z = 1 then 22 else 24
  | 21 => fun z => if z = 1 then 22 else 24
  | 23 => fun z => if z = 1 then 23 else 22
  | _ => fun _ => 23
theorem xEs_c {n : Nat} (h : n = 22 ∨ n = 23 ∨ n = 24) : xEs (fun _ => n) := fun _ => h
theorem xEs_i {a b : Nat} (h : a = 22 ∨ a = 23 ∨ a = 24) (h2 : b = 22 ∨ b = 23 ∨ b = 24) : xEs (fun z => if z = 1 then a else b) := fun p => by
  show (if p = 1 then a else b) = 22 ∨ (if p = 1 then a else b) = 23 ∨ (if p = 1 then a else b) = 24
  split
  · exact h
  · exact h2
/-- the words' hashes -/
def sHs : Nat → Int32
  | 7 => 3565875
  | 9 => 99044846
  | 10 => 95858449
  | 11 => 2988959
  | 12 => 3408017
  | 13 => 3146253
  | 14 => 3304
  | 15 => 105947926
  | 16 => (-1357520600)
  | 17 => 3704893
  | 18 => 97299
  | 19 => 3506418
  | 20 => 1126995602
  | 21 => 3194991
  | 23 => 3357649
  | _ => 0
def mkIds : List Nat := [7, 9, 10, 11, 12, 13, 14, 15, 16, 17, 18, 19, 20, 21, 23]
/-- the words of changes, as the launch holds them -/
def gKH (K : gK) : Prop := ∀ id ∈ mkIds, ∃ b, gOld K (gAd K id) = some (.inr (7, [.ref b, .int 0, .int (sHs id), .int 0]))
