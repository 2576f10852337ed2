/-! ===== heaps as they go: facts carried over a change; frames ===== -/
theorem gu_t {h h1 : AH} {a x : Nat} {e ex : va_E} (e1 : h1 = gu h a e) (hx : h x = some ex) (hn : x ≠ a) : h1 x = some ex := by
  rw [e1]; exact gu_o hx hn
theorem gu_a {h h1 : AH} {a : Nat} {e : va_E} (e1 : h1 = gu h a e) : h1 a = some e := by
  rw [e1]; exact gu_s
theorem gnew {h : AH} {q x : Nat} {ex : va_E} (hn : h q = none) (hx : h x = some ex) : x ≠ q := by
  rintro rfl
  rw [hn] at hx
  cases hx
/-- outside D nothing of h is changed in h1 -/
def gF (D : Nat → Prop) (h h1 : AH) : Prop := ∀ a e, h a = some e → ¬ D a → h1 a = some e
theorem gF.rf {D : Nat → Prop} {h : AH} : gF D h h := fun _ _ q _ => q
theorem gF.tr {D : Nat → Prop} {h h1 h2 : AH} (a : gF D h h1) (b : gF D h1 h2) : gF D h h2 := fun x e q d => b x e (a x e q d) d
theorem gF.mono {D D2 : Nat → Prop} {h h1 : AH} (a : gF D h h1) (w : ∀ x, D x → D2 x) : gF D2 h h1 := fun x e q d => a x e q (fun z => d (w x z))
theorem gF.new {D : Nat → Prop} {h h1 h2 : AH} {q : Nat} {e : va_E} (f : gF D h h1) (e1 : h2 = gu h1 q e) (hn : h1 q = none) : gF D h h2 := fun x ex hx d => by
  rw [e1]; exact gu_f (f x ex hx d) hn
theorem gF.no {D : Nat → Prop} {h h1 : AH} {q : Nat} (f : gF D h h1) (hn : h1 q = none) (hd : ¬ D q) : h q = none := by
  cases z : h q with
  | none => rfl
  | some e => rw [f q e z hd] at hn; cases hn
theorem gF.wr {D : Nat → Prop} {h h1 h2 : AH} {a : Nat} {e : va_E} (f : gF D h h1) (e1 : h2 = gu h1 a e) (hn : h a = none) : gF D h h2 := fun x ex hx d => by
  rw [e1]
  refine gu_o (f x ex hx d) ?_
  rintro rfl
  rw [hn] at hx; cases hx
theorem gF.wrD {D : Nat → Prop} {h h1 h2 : AH} {a : Nat} {e : va_E} (f : gF D h h1) (e1 : h2 = gu h1 a e) (hn : D a) : gF D h h2 := fun x ex hx d => by
  rw [e1]
  refine gu_o (f x ex hx d) ?_
  rintro rfl
  exact d hn
theorem gF.at {D : Nat → Prop} {h h1 : AH} {x : Nat} {e : va_E} (f : gF D h h1) (hx : h x = some e) (hd : ¬ D x) : h1 x = some e := f x e hx hd
/-- nothing of h is changed -/
abbrev gN0 : Nat → Prop := fun _ => False
theorem gF.at0 {h h1 : AH} {x : Nat} {e : va_E} (f : gF gN0 h h1) (hx : h x = some e) : h1 x = some e := f x e hx id
theorem gZs_0 (K : gK) : ("java/lang/String", "COMPACT_STRINGS", "Z", Value.int 1) ∈ gZs K := List.mem_cons_self
theorem gZs_1 (K : gK) : ("java/lang/Integer", "DigitOnes", "[B", Value.ref (gAd K 201)) ∈ gZs K := List.mem_cons_of_mem _ List.mem_cons_self
theorem gZs_2 (K : gK) : ("java/lang/Integer", "DigitTens", "[B", Value.ref (gAd K 202)) ∈ gZs K := List.mem_cons_of_mem _ (List.mem_cons_of_mem _ List.mem_cons_self)
theorem gZs_3 (K : gK) : ("java/util/ArrayList", "DEFAULTCAPACITY_EMPTY_ELEMENTDATA", "[Ljava/lang/Object;", Value.ref (gAd K 203)) ∈ gZs K := List.mem_cons_of_mem _ (List.mem_cons_of_mem _ (List.mem_cons_of_mem _ List.mem_cons_self))
section GX
variable {K : gK} {p : Program} {e : Env} {s : State} {m : MethodId} {args : Array Value} {below : List Frame} {meth : Method} {c : Code} {R : Room} {nL : Nat} {post : gRes → AH → Prop} {h : AH} {b bs pc : Nat} {lv : List (Nat × Value)} {st : List Value} {cc : ByteArray} {own : String} {ret : Option FieldType}
theorem gneT (F : gFix K p s m args meth c cc nL own ret) {x a i j n n2 : Nat} {d d2 : (Nat → Int32) ⊕ (Nat → Int64) ⊕ (Nat → UInt32) ⊕ (Nat → UInt64) ⊕ (Nat → Option Nat)} (hx : h x = some (.inl (gT K i, n, d))) (ha : h a = some (.inl (gT K j, n2, d2))) (hij : i < 8 ∧ j < 8 ∧ i ≠ j) : x ≠ a := by
  rintro rfl
  rw [hx] at ha
  have e1 : gT K i = gT K j := by
    have := Option.some.inj ha
    injection this with e2
    exact congrArg Prod.fst e2
  exact hij.2.2 (F.inj i j hij.1 hij.2.1 e1)
theorem g_baldN {n i0 i : Nat} {f : Nat → Int32} {a : Nat} {x : Int32} (F : gFix K p s m args meth c cc nL own ret) (ha : h a = some (.inl (gT K 1, n, .inl f))) (hx : x = nI i0) (he : i0 = i) (hi : i < n) (hn : n < 2 ^ 31) (hd : decode cc pc = .ok (.baload, 1)) (kk : G K p e s m args below meth c R nL post h b bs (pc + 1) lv (.int (f i) :: st)) : G K p e s m args below meth c R nL post h b bs pc lv (.int x :: .ref a :: st) := by
  subst he; subst hx
  refine g_bald F ha (vp_in_nI hi hn) hd ?_
  rw [nI_clamp (Nat.lt_trans hi hn)]
  exact kk
theorem g_zaldN {n i0 i : Nat} {f : Nat → Int32} {a : Nat} {x : Int32} (F : gFix K p s m args meth c cc nL own ret) (ha : h a = some (.inl (gT K 2, n, .inl f))) (hx : x = nI i0) (he : i0 = i) (hi : i < n) (hn : n < 2 ^ 31) (hd : decode cc pc = .ok (.baload, 1)) (kk : G K p e s m args below meth c R nL post h b bs (pc + 1) lv (.int (f i) :: st)) : G K p e s m args below meth c R nL post h b bs pc lv (.int x :: .ref a :: st) := by
  subst he; subst hx
  refine g_zald F ha (vp_in_nI hi hn) hd ?_
  rw [nI_clamp (Nat.lt_trans hi hn)]
  exact kk
theorem g_aaldN {n i0 i : Nat} {f : Nat → Option Nat} {a : Nat} {x : Int32} (F : gFix K p s m args meth c cc nL own ret) (ha : h a = some (.inl (gT K 6, n, .inr (.inr (.inr (.inr f)))))) (ho : gOld K a = none) (hx : x = nI i0) (he : i0 = i) (hi : i < n) (hn : n < 2 ^ 31) {v : Value} (hv : va_rf (f i) = v) (hd : decode cc pc = .ok (.aaload, 1)) (kk : G K p e s m args below meth c R nL post h b bs (pc + 1) lv (v :: st)) : G K p e s m args below meth c R nL post h b bs pc lv (.int x :: .ref a :: st) := by
  subst he; subst hx; subst hv
  refine g_aald (t := 6) F (by decide) rfl ha ho (vp_in_nI hi hn) hd ?_
  rw [nI_clamp (Nat.lt_trans hi hn)]
  exact kk
theorem g_saldN {n i0 i : Nat} {f : Nat → Option Nat} {a : Nat} {x : Int32} (F : gFix K p s m args meth c cc nL own ret) (ha : h a = some (.inl (gT K 7, n, .inr (.inr (.inr (.inr f)))))) (ho : gOld K a = none) (hx : x = nI i0) (he : i0 = i) (hi : i < n) (hn : n < 2 ^ 31) {v : Value} (hv : va_rf (f i) = v) (hd : decode cc pc = .ok (.aaload, 1)) (kk : G K p e s m args below meth c R nL post h b bs (pc + 1) lv (v :: st)) : G K p e s m args below meth c R nL post h b bs pc lv (.int x :: .ref a :: st) := by
  subst he; subst hx; subst hv
  refine g_aald (t := 7) F (by decide) rfl ha ho (vp_in_nI hi hn) hd ?_
  rw [nI_clamp (Nat.lt_trans hi hn)]
  exact kk
theorem g_aastN2 {t n v ci N : Nat} {f : Nat → Option Nat} {a i i0 : Nat} {x : Int32} {C E : String} {T : u_T} {fs : List Value} (F : gFix K p s m args meth c cc nL own ret) (ht : t < 8) (hC : gTy t = .object E) (hc : gCl[ci]? = some (C, T, N)) (hf : gFit s C E) (ha : h a = some (.inl (gT K t, n, .inr (.inr (.inr (.inr f)))))) (ho : gOld K a = none) (hv : h v = some (.inr (ci, fs))) (hx : x = nI i0) (he : i0 = i) (hi : i < n) (hn : n < 2 ^ 31) (hd : decode cc pc = .ok (.aastore, 1)) (kk : ∀ h1 : AH, h1 = gu h a (.inl (gT K t, n, .inr (.inr (.inr (.inr (va_up f i (some v))))))) → G K p e s m args below meth c R nL post h1 b bs (pc + 1) lv st) : G K p e s m args below meth c R nL post h b bs pc lv (.ref v :: .int x :: .ref a :: st) := by
  subst he; subst hx
  refine g_aast F ht hC hc hf ha ho hv (vp_in_nI hi hn) hd (fun h1 e1 => ?_)
  rw [nI_clamp (Nat.lt_trans hi hn)] at e1
  exact kk h1 e1
theorem g_aastNN {t n : Nat} {f : Nat → Option Nat} {a i i0 : Nat} {x : Int32} {C : String} (F : gFix K p s m args meth c cc nL own ret) (ht : t < 8) (hC : gTy t = .object C) (ha : h a = some (.inl (gT K t, n, .inr (.inr (.inr (.inr f)))))) (ho : gOld K a = none) (hx : x = nI i0) (he : i0 = i) (hi : i < n) (hn : n < 2 ^ 31) (hd : decode cc pc = .ok (.aastore, 1)) (kk : ∀ h1 : AH, h1 = gu h a (.inl (gT K t, n, .inr (.inr (.inr (.inr (va_up f i none)))))) → G K p e s m args below meth c R nL post h1 b bs (pc + 1) lv st) : G K p e s m args below meth c R nL post h b bs pc lv (.null :: .int x :: .ref a :: st) := by
  subst he; subst hx
  refine g_aastN F ht hC ha ho (vp_in_nI hi hn) hd (fun h1 e1 => ?_)
  rw [nI_clamp (Nat.lt_trans hi hn)] at e1
  exact kk h1 e1
/-- what stood before is in every heap -/
theorem g_old {a : Nat} {x : va_E} (ho : gOld K a = some x) (kk : h a = some x → G K p e s m args below meth c R nL post h b bs pc lv st) : G K p e s m args below meth c R nL post h b bs pc lv st := by
  intro H locs ls kc ks hH hS hl hb hbs
  have hx : h a = some x := by
    obtain ⟨ws, -, -, hw⟩ := hH
    exact (hw a x).mpr (.inr ho)
  exact kk hx H locs ls kc ks hH hS hl hb hbs
end GX
/-- a Latin-1 byte as a char -/
def sCh (x : Int32) : Int32 := ((x &&& 255).toUInt32 % 65536).toInt32
theorem sCh_n {x : Int32} : narrow .char (.int (sCh x)) = .int (sCh x) := by
  exact pk_nc _
theorem sShr {x : Int32} : x >>> ((0 : Int32) &&& 31) = x := by
  rw [show ((0 : Int32) &&& 31) = 0 from rfl]; simp
theorem sCh_k {k : Nat} (h : k < 128) : sCh (nI k) = nI k := by
  have : ∀ k, k < 128 → sCh (nI k) = nI k := by decide +kernel
  exact this k h
theorem nar_k {k : Nat} (h : k < 128) : vp_nar .char (nI k) = nI k := by
  have : ∀ k, k < 128 → vp_nar .char (nI k) = nI k := by decide +kernel
  exact this k h
theorem chr48 {d : Nat} (h : d < 10) : vp_nar .char (((48 + nI d : Int32).toUInt32 % 65536).toInt32) = nI (48 + d) := by
  have : ∀ d, d < 10 → vp_nar .char (((48 + nI d : Int32).toUInt32 % 65536).toInt32) = nI (48 + d) := by decide +kernel
  exact this d h
section GEN
variable {K : gK} {p : Program} {e : Env} {s : State} {m : MethodId} {args : Array Value} {below : List Frame} {meth : Method} {c : Code} {R : Room} {nL : Nat} {post : gRes → AH → Prop} {h : AH} {b bs pc : Nat} {lv : List (Nat × Value)} {st : List Value}
/-- the heap under a name -/
theorem g_gen (kk : ∀ h1 : AH, h1 = h → G K p e s m args below meth c R nL post h1 b bs pc lv st) : G K p e s m args below meth c R nL post h b bs pc lv st := kk h rfl
/-- returns with P -/
def pO (P : Option Value → AH → Prop) : gRes → AH → Prop := fun r h' => ∃ v, r = .inl v ∧ P v h'
theorem g_pO {P : Option Value → AH → Prop} (kk : ∀ (v : Option Value) (h1 : AH), P v h1 → G K p e s m args below meth c R nL post h1 b bs pc lv (v.toList ++ st)) : ∀ (v : Option Value) (h1 : AH), pO P (.inl v) h1 → G K p e s m args below meth c R nL post h1 b bs pc lv (v.toList ++ st) := by
  rintro v h1 ⟨v2, hv, hp⟩
  cases hv
  exact kk v h1 hp
theorem g_pOX {P : Option Value → AH → Prop} : ∀ (q : Nat) (h1 : AH), pO P (.inr q) h1 → gOld K q = none → GX K p e s m args below meth c R nL post h1 b bs pc lv q := by
  rintro q h1 ⟨v2, hv, hp⟩
  cases hv
/-- returns with P, or throws with X -/
def pT (P : Option Value → AH → Prop) (X : Nat → AH → Prop) : gRes → AH → Prop := fun r h' => (∃ v, r = .inl v ∧ P v h') ∨ ∃ q, r = .inr q ∧ X q h'
theorem g_pT {P : Option Value → AH → Prop} {X : Nat → AH → Prop} (kk : ∀ (v : Option Value) (h1 : AH), P v h1 → G K p e s m args below meth c R nL post h1 b bs pc lv (v.toList ++ st)) : ∀ (v : Option Value) (h1 : AH), pT P X (.inl v) h1 → G K p e s m args below meth c R nL post h1 b bs pc lv (v.toList ++ st) := by
  rintro v h1 (⟨v2, hv, hp⟩ | ⟨q, hv, hp⟩)
  · cases hv; exact kk v h1 hp
  · cases hv
theorem g_pTX {P : Option Value → AH → Prop} {X : Nat → AH → Prop} (kx : ∀ (q : Nat) (h1 : AH), X q h1 → gOld K q = none → GX K p e s m args below meth c R nL post h1 b bs pc lv q) : ∀ (q : Nat) (h1 : AH), pT P X (.inr q) h1 → gOld K q = none → GX K p e s m args below meth c R nL post h1 b bs pc lv q := by
  rintro q h1 (⟨v2, hv, hp⟩ | ⟨q2, hv, hp⟩) ho
  · cases hv
  · cases hv; exact kx q h1 hp ho
end GEN
/-- a list's array: n things, then nothing -/
def lsD (l : Nat → Nat) (n : Nat) : Nat → Option Nat := fun i => if i < n then some (l i) else none
theorem lsD_t {l : Nat → Nat} {n i : Nat} (h : i < n) : va_rf (lsD l n i) = .ref (l i) := by
  simp [lsD, h, va_rf]
theorem lsD_0 {l : Nat → Nat} : lsD l 0 = fun _ => none := by
  funext i; simp [lsD]
def lsP (l : Nat → Nat) (n x : Nat) : Nat → Nat := fun i => if i = n then x else l i
theorem lsD_p {l : Nat → Nat} {n x : Nat} : va_up (lsD l n) n (some x) = lsD (lsP l n x) (n + 1) := by
  funext i
  simp only [va_up, lsD, lsP]
  by_cases q : i = n
  · subst q; simp
  · by_cases r : i < n
    · simp [q, r, Nat.lt_succ_of_lt r]
    · simp [q, r, show ¬ i < n + 1 by omega]
