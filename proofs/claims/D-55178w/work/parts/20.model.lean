/-! ===== THE REFERENCE's cells: CurtainRiggersModel at o, its arrays at L k (k: the field's place), its ints iv k, its arrays' contents av k ===== -/
theorem nle {a b : Nat} (h : Nat.ble a b = true) : a ≤ b := Nat.le_of_ble_eq_true h
theorem nadd {x y : Int32} {a b : Nat} (hx : x = nI a) (hy : y = nI b) : x + y = nI (a + b) := by rw [hx, hy, nI_add]
theorem nmul {x y : Int32} {a b : Nat} (hx : x = nI a) (hy : y = nI b) : x * y = nI (a * b) := by rw [hx, hy, pk_mul]
theorem nsub {x y : Int32} {a b : Nat} (hx : x = nI a) (hy : y = nI b) (h : b ≤ a) : x - y = nI (a - b) := by rw [hx, hy, pk_sub h]
theorem nto {x : Int32} {a b : Nat} (hx : x = nI a) (h : a = b) : x = nI b := by rw [hx, h]
theorem gloop {P : Nat → Prop} (N : Nat) (st : ∀ k, k ≤ N → (k < N → P (k + 1)) → P k) : ∀ k, k ≤ N → P k := by
  have key : ∀ d k, k + d = N → P k := by
    intro d
    induction d with
    | zero => exact fun k hk => st k (by omega) (fun h => absurd h (by omega))
    | succ d ih => exact fun k hk => st k (by omega) (fun _ => ih (k + 1) (by omega))
  exact fun k hk => key (N - k) k (by omega)
theorem gexit {k N : Nat} (hN : N < 2 ^ 31) (hk : k ≤ N) (c : nI N ≤ nI k) : k = N := by
  rcases Nat.lt_or_ge k N with q | q
  · exact absurd c (nI_ge q hN)
  · omega
theorem gbody {k N : Nat} (hN : N < 2 ^ 31) (hk : k ≤ N) (c : ¬ nI N ≤ nI k) : k < N := by
  rcases Nat.lt_or_ge k N with q | q
  · exact q
  · exact absurd (by rw [show k = N by omega]; exact Int32.le_refl _) c
/-- answers x, the heap is h -/
def pR (x : Value) (h : AH) : gRes → AH → Prop := fun r h' => r = .inl (some x) ∧ h' = h
def pV (h : AH) : gRes → AH → Prop := fun r h' => r = .inl none ∧ h' = h
section GPUR
variable {K : gK} {p : Program} {e : Env} {s : State} {m : MethodId} {args : Array Value} {below : List Frame} {meth : Method} {c : Code} {R : Room} {nL : Nat} {post : gRes → AH → Prop} {h : AH} {b bs pc : Nat} {lv : List (Nat × Value)} {st : List Value} {cc : ByteArray} {own : String} {ret : Option FieldType}
theorem g_pur {x : Value} (kk : G K p e s m args below meth c R nL post h b bs pc lv (x :: st)) : ∀ (v : Option Value) (h1 : AH), pR x h (.inl v) h1 → G K p e s m args below meth c R nL post h1 b bs pc lv (v.toList ++ st) := by
  rintro v h1 ⟨h2, rfl⟩
  cases h2
  exact kk
theorem g_purX {x : Value} {h9 : AH} : ∀ (q : Nat) (h1 : AH), pR x h9 (.inr q) h1 → gOld K q = none → GX K p e s m args below meth c R nL post h1 b bs pc lv q := by
  rintro q h1 ⟨h2, -⟩
  cases h2
theorem g_purv (kk : G K p e s m args below meth c R nL post h b bs pc lv st) : ∀ (v : Option Value) (h1 : AH), pV h (.inl v) h1 → G K p e s m args below meth c R nL post h1 b bs pc lv (v.toList ++ st) := by
  rintro v h1 ⟨h2, rfl⟩
  cases h2
  exact kk
theorem g_purvX {h9 : AH} : ∀ (q : Nat) (h1 : AH), pV h9 (.inr q) h1 → gOld K q = none → GX K p e s m args below meth c R nL post h1 b bs pc lv q := by
  rintro q h1 ⟨h2, -⟩
  cases h2
end GPUR
def mF (L : Nat → Nat) (iv : Nat → Int32) : List Value := [.ref (L 0), .ref (L 1), .ref (L 2), .ref (L 3), .int (iv 4), .ref (L 5), .int (iv 6), .int (iv 7), .int (iv 8), .int (iv 9), .ref (L 10), .int (iv 11), .ref (L 12), .ref (L 13), .int (iv 14), .int (iv 15), .int (iv 16), .int (iv 17), .int (iv 18), .ref (L 19), .int (iv 20)]
def mWd (K : gK) (j : Nat) : Option Nat := match j with
  | 0 => some (gAd K 9)
  | 1 => some (gAd K 10)
  | 2 => some (gAd K 11)
  | 3 => some (gAd K 12)
  | 4 => some (gAd K 13)
  | 5 => some (gAd K 14)
  | 6 => some (gAd K 15)
  | 7 => some (gAd K 16)
  | 8 => some (gAd K 17)
  | _ => none
def mSz (k : Nat) : Nat := match k with
  | 5 => 1048
  | 10 => 200
  | 13 => 60
  | 19 => 180
  | _ => 131
def mO (K : gK) (h : AH) (o : Nat) (L : Nat → Nat) (iv : Nat → Int32) (av : Nat → Nat → Int32) : AH := fun a =>
  if a = o then some (.inr (0, mF L iv)) else if a = L 0 then some (.inl (gT K 0, 131, .inl (av 0))) else if a = L 1 then some (.inl (gT K 0, 131, .inl (av 1))) else if a = L 2 then some (.inl (gT K 0, 131, .inl (av 2))) else if a = L 3 then some (.inl (gT K 0, 131, .inl (av 3))) else if a = L 5 then some (.inl (gT K 0, 1048, .inl (av 5))) else if a = L 10 then some (.inl (gT K 3, 200, .inl (av 10))) else if a = L 12 then some (.inl (gT K 7, 9, .inr (.inr (.inr (.inr (mWd K)))))) else if a = L 13 then some (.inl (gT K 0, 60, .inl (av 13))) else if a = L 19 then some (.inl (gT K 0, 180, .inl (av 19))) else h a
def mJ : List Nat := [0, 1, 2, 3, 5, 10, 12, 13, 19]
/-- the reference's cells lie apart and are new -/
def mN (K : gK) (o : Nat) (L : Nat → Nat) : Prop := gOld K o = none ∧ (∀ i ∈ mJ, gOld K (L i) = none) ∧ (∀ i ∈ mJ, L i ≠ o) ∧ ∀ i ∈ mJ, ∀ j ∈ mJ, L i = L j → i = j
theorem mN.ne {K : gK} {o : Nat} {L : Nat → Nat} (hN : mN K o L) {i j : Nat} (hi : i ∈ mJ) (hj : j ∈ mJ) (hij : i ≠ j) : L i ≠ L j := fun z => hij (hN.2.2.2 i hi j hj z)
section MODEL
variable {K : gK} {h : AH} {o : Nat} {L : Nat → Nat} {iv : Nat → Int32} {av : Nat → Nat → Int32}
theorem mO_o : mO K h o L iv av o = some (.inr (0, mF L iv)) := by simp [mO]
theorem mO_0 (hN : mN K o L) : mO K h o L iv av (L 0) = some (.inl (gT K 0, 131, .inl (av 0))) := by
  simp [mO, hN.2.2.1 0 (by decide)]
theorem mO_1 (hN : mN K o L) : mO K h o L iv av (L 1) = some (.inl (gT K 0, 131, .inl (av 1))) := by
  simp [mO, hN.2.2.1 1 (by decide), hN.ne (i := 1) (j := 0) (by decide) (by decide) (by decide)]
theorem mO_2 (hN : mN K o L) : mO K h o L iv av (L 2) = some (.inl (gT K 0, 131, .inl (av 2))) := by
  simp [mO, hN.2.2.1 2 (by decide), hN.ne (i := 2) (j := 0) (by decide) (by decide) (by decide), hN.ne (i := 2) (j := 1) (by decide) (by decide) (by decide)]
theorem mO_3 (hN : mN K o L) : mO K h o L iv av (L 3) = some (.inl (gT K 0, 131, .inl (av 3))) := by
  simp [mO, hN.2.2.1 3 (by decide), hN.ne (i := 3) (j := 0) (by decide) (by decide) (by decide), hN.ne (i := 3) (j := 1) (by decide) (by decide) (by decide), hN.ne (i := 3) (j := 2) (by decide) (by decide) (by decide)]
theorem mO_5 (hN : mN K o L) : mO K h o L iv av (L 5) = some (.inl (gT K 0, 1048, .inl (av 5))) := by
  simp [mO, hN.2.2.1 5 (by decide), hN.ne (i := 5) (j := 0) (by decide) (by decide) (by decide), hN.ne (i := 5) (j := 1) (by decide) (by decide) (by decide), hN.ne (i := 5) (j := 2) (by decide) (by decide) (by decide), hN.ne (i := 5) (j := 3) (by decide) (by decide) (by decide)]
theorem mO_10 (hN : mN K o L) : mO K h o L iv av (L 10) = some (.inl (gT K 3, 200, .inl (av 10))) := by
  simp [mO, hN.2.2.1 10 (by decide), hN.ne (i := 10) (j := 0) (by decide) (by decide) (by decide), hN.ne (i := 10) (j := 1) (by decide) (by decide) (by decide), hN.ne (i := 10) (j := 2) (by decide) (by decide) (by decide), hN.ne (i := 10) (j := 3) (by decide) (by decide) (by decide), hN.ne (i := 10) (j := 5) (by decide) (by decide) (by decide)]
theorem mO_12 (hN : mN K o L) : mO K h o L iv av (L 12) = some (.inl (gT K 7, 9, .inr (.inr (.inr (.inr (mWd K)))))) := by
  simp [mO, hN.2.2.1 12 (by decide), hN.ne (i := 12) (j := 0) (by decide) (by decide) (by decide), hN.ne (i := 12) (j := 1) (by decide) (by decide) (by decide), hN.ne (i := 12) (j := 2) (by decide) (by decide) (by decide), hN.ne (i := 12) (j := 3) (by decide) (by decide) (by decide), hN.ne (i := 12) (j := 5) (by decide) (by decide) (by decide), hN.ne (i := 12) (j := 10) (by decide) (by decide) (by decide)]
theorem mO_13 (hN : mN K o L) : mO K h o L iv av (L 13) = some (.inl (gT K 0, 60, .inl (av 13))) := by
  simp [mO, hN.2.2.1 13 (by decide), hN.ne (i := 13) (j := 0) (by decide) (by decide) (by decide), hN.ne (i := 13) (j := 1) (by decide) (by decide) (by decide), hN.ne (i := 13) (j := 2) (by decide) (by decide) (by decide), hN.ne (i := 13) (j := 3) (by decide) (by decide) (by decide), hN.ne (i := 13) (j := 5) (by decide) (by decide) (by decide), hN.ne (i := 13) (j := 10) (by decide) (by decide) (by decide), hN.ne (i := 13) (j := 12) (by decide) (by decide) (by decide)]
theorem mO_19 (hN : mN K o L) : mO K h o L iv av (L 19) = some (.inl (gT K 0, 180, .inl (av 19))) := by
  simp [mO, hN.2.2.1 19 (by decide), hN.ne (i := 19) (j := 0) (by decide) (by decide) (by decide), hN.ne (i := 19) (j := 1) (by decide) (by decide) (by decide), hN.ne (i := 19) (j := 2) (by decide) (by decide) (by decide), hN.ne (i := 19) (j := 3) (by decide) (by decide) (by decide), hN.ne (i := 19) (j := 5) (by decide) (by decide) (by decide), hN.ne (i := 19) (j := 10) (by decide) (by decide) (by decide), hN.ne (i := 19) (j := 12) (by decide) (by decide) (by decide), hN.ne (i := 19) (j := 13) (by decide) (by decide) (by decide)]
theorem mu_s {j : Nat} {f : Nat → Int32} : mu av j f j = f := by simp [mu]
theorem mu_n {i j : Nat} {f : Nat → Int32} (h : i ≠ j) : mu av j f i = av i := by simp [mu, h]
theorem mu_mu {j : Nat} {f g : Nat → Int32} : mu (mu av j f) j g = mu av j g := by
  funext i
  by_cases q : i = j <;> simp [mu, q]
theorem mO_pi {iv2 : Nat → Int32} : gu (mO K h o L iv av) o (.inr (0, mF L iv2)) = mO K h o L iv2 av := by
  funext a
  by_cases q : a = o <;> simp [gu, mO, q]
theorem mO_pj (hN : mN K o L) {j : Nat} {ty : Nat} {n : Nat} {f : Nat → Int32} (hj : j ∈ mJ) (h12 : j ≠ 12) (hty : ty = if j = 10 then 3 else 0) (hn : n = mSz j) : gu (mO K h o L iv av) (L j) (.inl (gT K ty, n, .inl f)) = mO K h o L iv (mu av j f) := by
  subst hty; subst hn
  simp only [mJ, List.mem_cons, List.not_mem_nil, or_false] at hj
  funext a
  rcases hj with rfl | rfl | rfl | rfl | rfl | rfl | rfl | rfl | rfl
  · by_cases q : a = L 0
    · subst q; rw [gu_s, mO_0 hN, mu_s]; rfl
    · rw [gu_n q]; simp [mO, q, mu]
  · by_cases q : a = L 1
    · subst q; rw [gu_s, mO_1 hN, mu_s]; rfl
    · rw [gu_n q]; simp [mO, q, mu]
  · by_cases q : a = L 2
    · subst q; rw [gu_s, mO_2 hN, mu_s]; rfl
    · rw [gu_n q]; simp [mO, q, mu]
  · by_cases q : a = L 3
    · subst q; rw [gu_s, mO_3 hN, mu_s]; rfl
    · rw [gu_n q]; simp [mO, q, mu]
  · by_cases q : a = L 5
    · subst q; rw [gu_s, mO_5 hN, mu_s]; rfl
    · rw [gu_n q]; simp [mO, q, mu]
  · by_cases q : a = L 10
    · subst q; rw [gu_s, mO_10 hN, mu_s]; rfl
    · rw [gu_n q]; simp [mO, q, mu]
  · exact absurd rfl h12
  · by_cases q : a = L 13
    · subst q; rw [gu_s, mO_13 hN, mu_s]; rfl
    · rw [gu_n q]; simp [mO, q, mu]
  · by_cases q : a = L 19
    · subst q; rw [gu_s, mO_19 hN, mu_s]; rfl
    · rw [gu_n q]; simp [mO, q, mu]
end MODEL
section MROWS
variable {K : gK} {p : Program} {e : Env} {s : State} {m : MethodId} {args : Array Value} {below : List Frame} {meth : Method} {c : Code} {R : Room} {nL : Nat} {post : gRes → AH → Prop} {h : AH} {b bs pc : Nat} {lv : List (Nat × Value)} {st : List Value} {cc : ByteArray} {own : String} {ret : Option FieldType}
/-- an int array read at a known place -/
theorem g_ialdN {n i0 i : Nat} {f : Nat → Int32} {a : Nat} {x : Int32} (F : gFix K p s m args meth c cc nL own ret) (ha : h a = some (.inl (gT K 0, n, .inl f))) (hx : x = nI i0) (he : i0 = i) (hi : i < n) (hn : n < 2 ^ 31) (hd : decode cc pc = .ok (.iaload, 1)) (kk : G K p e s m args below meth c R nL post h b bs (pc + 1) lv (.int (f i) :: st)) : G K p e s m args below meth c R nL post h b bs pc lv (.int x :: .ref a :: st) := by
  subst he; subst hx
  refine g_iald F ha (vp_in_nI hi hn) hd ?_
  rw [nI_clamp (Nat.lt_trans hi hn)]
  exact kk
theorem g_caldN {n i0 i : Nat} {f : Nat → Int32} {a : Nat} {x : Int32} (F : gFix K p s m args meth c cc nL own ret) (ha : h a = some (.inl (gT K 3, n, .inl f))) (hx : x = nI i0) (he : i0 = i) (hi : i < n) (hn : n < 2 ^ 31) (hd : decode cc pc = .ok (.caload, 1)) (kk : G K p e s m args below meth c R nL post h b bs (pc + 1) lv (.int (f i) :: st)) : G K p e s m args below meth c R nL post h b bs pc lv (.int x :: .ref a :: st) := by
  subst he; subst hx
  refine g_cald F ha (vp_in_nI hi hn) hd ?_
  rw [nI_clamp (Nat.lt_trans hi hn)]
  exact kk
/-- a reference's array written at a known place -/
theorem g_miast {o : Nat} {L : Nat → Nat} {iv : Nat → Int32} {av : Nat → Nat → Int32} (hN : mN K o L) (j : Nat) {n i0 i : Nat} {x y : Int32} (F : gFix K p s m args meth c cc nL own ret) (hj : j ∈ mJ) (h12 : j ≠ 12 ∧ j ≠ 10) (hn : n = mSz j) (ha : mO K h o L iv av (L j) = some (.inl (gT K 0, n, .inl (av j)))) (hx : x = nI i0) (he : i0 = i) (hi : i < n) (hn2 : n < 2 ^ 31) (hd : decode cc pc = .ok (.iastore, 1)) (kk : G K p e s m args below meth c R nL post (mO K h o L iv (mu av j (upd (av j) i y))) b bs (pc + 1) lv st) : G K p e s m args below meth c R nL post (mO K h o L iv av) b bs pc lv (.int y :: .int x :: .ref (L j) :: st) := by
  subst he; subst hx
  refine g_iast F ha (hN.2.1 j hj) (vp_in_nI hi hn2) hd (fun h1 e1 => ?_)
  rw [e1, nI_clamp (Nat.lt_trans hi hn2), mO_pj hN hj h12.1 (by simp [h12.2]) hn]
  exact kk
theorem g_mcast {o : Nat} {L : Nat → Nat} {iv : Nat → Int32} {av : Nat → Nat → Int32} (hN : mN K o L) {i0 i : Nat} {x y : Int32} (F : gFix K p s m args meth c cc nL own ret) (hx : x = nI i0) (he : i0 = i) (hi : i < 200) (hd : decode cc pc = .ok (.castore, 1)) (kk : G K p e s m args below meth c R nL post (mO K h o L iv (mu av 10 (upd (av 10) i (vp_nar .char y)))) b bs (pc + 1) lv st) : G K p e s m args below meth c R nL post (mO K h o L iv av) b bs pc lv (.int y :: .int x :: .ref (L 10) :: st) := by
  subst he; subst hx
  refine g_cast F (mO_10 hN) (hN.2.1 10 (by decide)) (vp_in_nI hi (by decide)) hd (fun h1 e1 => ?_)
  rw [e1, nI_clamp (Nat.lt_trans hi (by decide)), mO_pj (j := 10) (ty := 3) (n := 200) hN (by decide) (by decide) (by rfl) rfl]
  exact kk
/-- a reference's int field written -/
theorem g_mput {h1 : AH} {o : Nat} {L : Nat → Nat} {iv iv2 : Nat → Int32} {av : Nat → Nat → Int32} {fs : List Value} (e1 : h1 = gu (mO K h o L iv av) o (.inr (0, fs))) (hf : fs = mF L iv2) (kk : G K p e s m args below meth c R nL post (mO K h o L iv2 av) b bs pc lv st) : G K p e s m args below meth c R nL post h1 b bs pc lv st := by
  rw [e1, hf, mO_pi]
  exact kk
end MROWS
