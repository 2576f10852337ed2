/-! ===== READING A TEXT (as the reference does it): place, isWrong, items ===== -/
def hrP (t : Nat → Int32) (n : Nat) (lo hi : Int32) (p : Nat) (w : Int32) : Int32 := if w = 0 ∧ p < n ∧ mIn (t p) lo hi ≠ 0 then 1 else 0
def sgP (t : Nat → Int32) (n : Nat) (lo hi : Int32) (p : Nat) (w : Int32) : Nat × Int32 × Int32 := if hrP t n lo hi p w = 0 then (p, 1, 0) else (p + 1, 0, t p - lo)
theorem hrP_0 {t : Nat → Int32} {n : Nat} {lo hi : Int32} {p : Nat} {w : Int32} (h : ¬ (w = 0 ∧ p < n ∧ mIn (t p) lo hi ≠ 0)) : hrP t n lo hi p w = 0 := if_neg h
theorem hrP_1 {t : Nat → Int32} {n : Nat} {lo hi : Int32} {p : Nat} {w : Int32} (h : w = 0 ∧ p < n ∧ mIn (t p) lo hi ≠ 0) : hrP t n lo hi p w = 1 := if_pos h
theorem hrP_p {t : Nat → Int32} {n : Nat} {lo hi : Int32} {p : Nat} {w : Int32} (h : hrP t n lo hi p w ≠ 0) : w = 0 ∧ p < n ∧ mIn (t p) lo hi ≠ 0 := by
  by_cases q : w = 0 ∧ p < n ∧ mIn (t p) lo hi ≠ 0
  · exact q
  · exact absurd (hrP_0 q) h
theorem sgP_t {t : Nat → Int32} {n : Nat} {lo hi : Int32} {p : Nat} {w : Int32} (h : hrP t n lo hi p w = 0) : sgP t n lo hi p w = (p, 1, 0) := if_pos h
theorem sgP_f {t : Nat → Int32} {n : Nat} {lo hi : Int32} {p : Nat} {w : Int32} (h : hrP t n lo hi p w ≠ 0) : sgP t n lo hi p w = (p + 1, 0, t p - lo) := if_neg h
theorem sgP_le {t : Nat → Int32} {n : Nat} {lo hi : Int32} {p : Nat} {w : Int32} : (sgP t n lo hi p w).1 ≤ p + 1 := by
  unfold sgP; split
  · exact Nat.le_succ _
  · exact Nat.le_refl _
theorem sgP_w {t : Nat → Int32} {n : Nat} {lo hi : Int32} {p : Nat} {w : Int32} : (sgP t n lo hi p w).2.1 = 0 ∨ (sgP t n lo hi p w).2.1 = 1 := by
  unfold sgP; split
  · exact .inr rfl
  · exact .inl rfl
def nmP (t : Nat → Int32) (n : Nat) (p : Nat) (w : Int32) : Nat × Int32 × Int32 :=
  if 0 < (sgP t n 48 57 p w).2.2 ∧ hrP t n 48 57 (sgP t n 48 57 p w).1 (sgP t n 48 57 p w).2.1 ≠ 0 then ((sgP t n 48 57 (sgP t n 48 57 p w).1 (sgP t n 48 57 p w).2.1).1, (sgP t n 48 57 (sgP t n 48 57 p w).1 (sgP t n 48 57 p w).2.1).2.1, 10 * (sgP t n 48 57 p w).2.2 + (sgP t n 48 57 (sgP t n 48 57 p w).1 (sgP t n 48 57 p w).2.1).2.2) else sgP t n 48 57 p w
theorem nmP_t {t : Nat → Int32} {n p : Nat} {w : Int32} (h : 0 < (sgP t n 48 57 p w).2.2 ∧ hrP t n 48 57 (sgP t n 48 57 p w).1 (sgP t n 48 57 p w).2.1 ≠ 0) : nmP t n p w = ((sgP t n 48 57 (sgP t n 48 57 p w).1 (sgP t n 48 57 p w).2.1).1, (sgP t n 48 57 (sgP t n 48 57 p w).1 (sgP t n 48 57 p w).2.1).2.1, 10 * (sgP t n 48 57 p w).2.2 + (sgP t n 48 57 (sgP t n 48 57 p w).1 (sgP t n 48 57 p w).2.1).2.2) := if_pos h
theorem nmP_f {t : Nat → Int32} {n p : Nat} {w : Int32} (h : ¬ (0 < (sgP t n 48 57 p w).2.2 ∧ hrP t n 48 57 (sgP t n 48 57 p w).1 (sgP t n 48 57 p w).2.1 ≠ 0)) : nmP t n p w = sgP t n 48 57 p w := if_neg h
theorem nmP_le {t : Nat → Int32} {n p : Nat} {w : Int32} : (nmP t n p w).1 ≤ p + 2 := by
  have a := sgP_le (t := t) (n := n) (lo := 48) (hi := 57) (p := p) (w := w)
  unfold nmP; split
  · have b := sgP_le (t := t) (n := n) (lo := 48) (hi := 57) (p := (sgP t n 48 57 p w).1) (w := (sgP t n 48 57 p w).2.1)
    show (sgP t n 48 57 (sgP t n 48 57 p w).1 (sgP t n 48 57 p w).2.1).1 ≤ p + 2
    omega
  · omega
theorem nmP_w {t : Nat → Int32} {n p : Nat} {w : Int32} : (nmP t n p w).2.1 = 0 ∨ (nmP t n p w).2.1 = 1 := by
  unfold nmP; split
  · exact sgP_w
  · exact sgP_w
/-- how many signs of a word stand at p -/
def xAl (t : Nat → Int32) (n : Nat) : List Nat → Nat → Nat
  | [], _ => 0
  | c :: cs, p => if p < n ∧ t p = nI c then xAl t n cs (p + 1) + 1 else 0
theorem xAl_le {t : Nat → Int32} {n : Nat} : ∀ {l : List Nat} {p : Nat}, xAl t n l p ≤ l.length := by
  intro l
  induction l with
  | nil => intro p; exact Nat.le_refl _
  | cons c cs ih =>
    intro p
    unfold xAl
    split
    · have := @ih (p + 1); simp only [List.length_cons]; omega
    · exact Nat.zero_le _
theorem xAl_n {t : Nat → Int32} {n : Nat} : ∀ {l : List Nat} {p : Nat}, p ≤ n → p + xAl t n l p ≤ n := by
  intro l
  induction l with
  | nil => intro p h; exact h
  | cons c cs ih =>
    intro p h
    unfold xAl
    split
    · rename_i q; have := @ih (p + 1) (by omega); omega
    · exact h
theorem xAl_t {t : Nat → Int32} {n k p : Nat} {l : List Nat} (hk : k < l.length) (h1 : p + k < n) (h2 : t (p + k) = nI (l.getD k 0)) : xAl t n (l.drop k) (p + k) = xAl t n (l.drop (k + 1)) (p + (k + 1)) + 1 := by
  have e : l.drop k = l.getD k 0 :: l.drop (k + 1) := by
    rw [show l.getD k 0 = l[k] by simp [List.getD, hk]]
    exact List.drop_eq_getElem_cons hk
  rw [e]
  show (if p + k < n ∧ t (p + k) = nI (l.getD k 0) then _ else _) = _
  rw [if_pos ⟨h1, h2⟩]
  rfl
theorem xAl_f {t : Nat → Int32} {n k p : Nat} {l : List Nat} (hk : k < l.length) (h : ¬ (p + k < n ∧ t (p + k) = nI (l.getD k 0))) : xAl t n (l.drop k) (p + k) = 0 := by
  have e : l.drop k = l.getD k 0 :: l.drop (k + 1) := by
    rw [show l.getD k 0 = l[k] by simp [List.getD, hk]]
    exact List.drop_eq_getElem_cons hk
  rw [e]
  exact if_neg h
/-- the word that stands at p (or -1), and the most signs alike, of the first k words -/
def wdP (t : Nat → Int32) (n p : Nat) : Nat → Int32 × Nat
  | 0 => (-1, 0)
  | k + 1 => (if xAl t n (sTx (9 + k)) p = (sTx (9 + k)).length then nI k else (wdP t n p k).1, max (wdP t n p k).2 (xAl t n (sTx (9 + k)) p))
theorem wdP_s {t : Nat → Int32} {n p k : Nat} : wdP t n p (k + 1) = (if xAl t n (sTx (9 + k)) p = (sTx (9 + k)).length then nI k else (wdP t n p k).1, max (wdP t n p k).2 (xAl t n (sTx (9 + k)) p)) := rfl
theorem wdP_c {t : Nat → Int32} {n p : Nat} : ∀ {k : Nat}, (wdP t n p k).1 = -1 ∨ ∃ j, j < k ∧ (wdP t n p k).1 = nI j := by
  intro k
  induction k with
  | zero => exact .inl rfl
  | succ k ih =>
    rw [wdP_s]
    by_cases q : xAl t n (sTx (9 + k)) p = (sTx (9 + k)).length
    · simp only [if_pos q]; exact .inr ⟨k, by omega, rfl⟩
    · simp only [if_neg q]
      rcases ih with h | ⟨j, hj, h⟩
      · exact .inl h
      · exact .inr ⟨j, by omega, h⟩
theorem sTx_len {k : Nat} (h : k < 9) : (sTx (9 + k)).length ≤ 6 := by
  have : k = 0 ∨ k = 1 ∨ k = 2 ∨ k = 3 ∨ k = 4 ∨ k = 5 ∨ k = 6 ∨ k = 7 ∨ k = 8 := by omega
  rcases this with rfl | rfl | rfl | rfl | rfl | rfl | rfl | rfl | rfl <;> decide
theorem wdP_m {t : Nat → Int32} {n p : Nat} : ∀ {k : Nat}, k ≤ 9 → (wdP t n p k).2 ≤ 6 := by
  intro k
  induction k with
  | zero => intro _; exact Nat.zero_le _
  | succ k ih =>
    intro h
    have a := ih (by omega)
    have b := xAl_le (t := t) (n := n) (l := sTx (9 + k)) (p := p)
    have c := sTx_len (k := k) (by omega)
    rw [wdP_s]
    show max _ _ ≤ 6
    omega
/-- a digit, a number, a blank after what was read so far -/
def dgR (t : Nat → Int32) (n : Nat) (r : Nat × Int32 × Int32) : Nat × Int32 × Int32 := sgP t n 48 57 r.1 r.2.1
def nmR (t : Nat → Int32) (n : Nat) (r : Nat × Int32 × Int32) : Nat × Int32 × Int32 := nmP t n r.1 r.2.1
def blR (t : Nat → Int32) (n : Nat) (r : Nat × Int32 × Int32) : Nat × Int32 × Int32 := sgP t n 32 32 r.1 r.2.1
def rkB (m : Nat) (it : Nat → Int32) (r : Nat × Int32 × Int32) : Nat × Int32 × Nat × (Nat → Int32) := (r.1, r.2.1, m + 1, upd it (1 + 3 * m) r.2.2)
def rkC (m : Nat) (it : Nat → Int32) (a : Int32) (r : Nat × Int32 × Int32) : Nat × Int32 × Nat × (Nat → Int32) := (r.1, r.2.1, m + 1, upd (upd it (1 + 3 * m) a) (2 + 3 * m) r.2.2)
def riK (t : Nat → Int32) (n p m : Nat) (it : Nat → Int32) (k : Nat) : Nat × Int32 × Nat × (Nat → Int32) := match k with
  | 0 => rkC m (upd it (3 * m) 0) (nmP t n p 0).2.2 (dgR t n (blR t n (nmP t n p 0)))
  | 1 => rkB m (upd it (3 * m) 1) (nmP t n p 0)
  | 2 => rkC m (upd it (3 * m) 2) (sgP t n 48 57 p 0).2.2 (nmR t n (blR t n (sgP t n 48 57 p 0)))
  | 3 => rkC m (upd it (3 * m) 3) (sgP t n 48 57 p 0).2.2 (nmR t n (blR t n (sgP t n 48 57 p 0)))
  | 4 => rkC m (upd it (3 * m) 4) (sgP t n 48 57 p 0).2.2 (nmR t n (blR t n (sgP t n 48 57 p 0)))
  | 5 => rkB m (upd it (3 * m) 5) (p, 0, 0)
  | 6 => rkB m (upd it (3 * m) 6) (sgP t n 48 57 p 0)
  | 7 => rkB m (upd it (3 * m) 7) (sgP t n 48 57 p 0)
  | _ => rkB m (upd it (3 * m) 8) (p, 0, 0)
def riP (t : Nat → Int32) (n p : Nat) (w : Int32) (m : Nat) (it : Nat → Int32) : Nat × Int32 × Nat × (Nat → Int32) :=
  if w ≠ 0 then (p, 1, m, it) else if (wdP t n p 9).1 = -1 then (p + (wdP t n p 9).2, 1, m, it) else riK t n (p + (wdP t n p 9).2) m it (wdP t n p 9).1.toNatClampNeg
/-- the three cells of the reader, put anew -/
def pIv (iv : Nat → Int32) (p : Nat) (w : Int32) (m : Nat) : Nat → Int32 := upd (upd (upd iv 15 (nI p)) 16 w) 20 (nI m)
theorem pIv_15 {iv : Nat → Int32} {p : Nat} {w : Int32} {m : Nat} : pIv iv p w m 15 = nI p := by
  unfold pIv; rw [pk_un (by decide), pk_un (by decide), pk_us]
theorem pIv_16 {iv : Nat → Int32} {p : Nat} {w : Int32} {m : Nat} : pIv iv p w m 16 = w := by
  unfold pIv; rw [pk_un (by decide), pk_us]
theorem pIv_20 {iv : Nat → Int32} {p : Nat} {w : Int32} {m : Nat} : pIv iv p w m 20 = nI m := by
  unfold pIv; rw [pk_us]
theorem pIv_n {iv : Nat → Int32} {p : Nat} {w : Int32} {m j : Nat} (h1 : j ≠ 15) (h2 : j ≠ 16) (h3 : j ≠ 20) : pIv iv p w m j = iv j := by
  unfold pIv; rw [pk_un h3, pk_un h2, pk_un h1]
theorem pIv_id {iv : Nat → Int32} {p : Nat} {w : Int32} {m : Nat} (h1 : iv 15 = nI p) (h2 : iv 16 = w) (h3 : iv 20 = nI m) : pIv iv p w m = iv := by
  unfold pIv; rw [upd_id h1, upd_id h2, upd_id h3]
theorem upd_cm {f : Nat → Int32} {j k : Nat} {x y : Int32} (h : j ≠ k) : upd (upd f j x) k y = upd (upd f k y) j x := by
  funext i
  by_cases a : i = j
  · subst a; rw [pk_un h, pk_us, pk_us]
  · by_cases b : i = k
    · subst b; rw [pk_us, pk_un a, pk_us]
    · rw [pk_un b, pk_un a, pk_un a, pk_un b]
theorem pIv_p {iv : Nat → Int32} {p p2 : Nat} {w : Int32} {m : Nat} : upd (pIv iv p w m) 15 (nI p2) = pIv iv p2 w m := by
  unfold pIv; rw [upd_cm (j := 20) (by decide), upd_cm (j := 16) (by decide), upd_upd]
theorem pIv_w {iv : Nat → Int32} {p : Nat} {w w2 : Int32} {m : Nat} : upd (pIv iv p w m) 16 w2 = pIv iv p w2 m := by
  unfold pIv; rw [upd_cm (j := 20) (by decide), upd_upd]
theorem pIv_m {iv : Nat → Int32} {p : Nat} {w : Int32} {m m2 : Nat} : upd (pIv iv p w m) 20 (nI m2) = pIv iv p w m2 := by
  unfold pIv; rw [upd_upd]
theorem riP_k {t : Nat → Int32} {n p m k : Nat} {it : Nat → Int32} (h : (wdP t n p 9).1 = nI k) (hk : k < 9) : riP t n p 0 m it = riK t n (p + (wdP t n p 9).2) m it k := by
  unfold riP
  rw [if_neg (fun z => z rfl), h, if_neg, nI_clamp (by omega)]
  intro z
  exact absurd (z ▸ nI_pos' (n := k) (by omega) : (0 : Int32) ≤ -1) (by decide)
theorem riP_0 {t : Nat → Int32} {n p m : Nat} {it : Nat → Int32} (h : (wdP t n p 9).1 = -1) : riP t n p 0 m it = (p + (wdP t n p 9).2, 1, m, it) := by
  unfold riP
  rw [if_neg (fun z => z rfl), if_pos h]
theorem riP_w {t : Nat → Int32} {n p m : Nat} {it : Nat → Int32} {w : Int32} (h : w ≠ 0) : riP t n p w m it = (p, 1, m, it) := if_pos h
theorem mWd_k {K : gK} {k : Nat} (h : k < 9) : va_rf (mWd K k) = .ref (gAd K (9 + k)) := by
  have : k = 0 ∨ k = 1 ∨ k = 2 ∨ k = 3 ∨ k = 4 ∨ k = 5 ∨ k = 6 ∨ k = 7 ∨ k = 8 := by omega
  rcases this with rfl | rfl | rfl | rfl | rfl | rfl | rfl | rfl | rfl <;> rfl
theorem sTx_c {k : Nat} (h : k < 9) : ∀ c ∈ sTx (9 + k), c < 128 := by
  have : k = 0 ∨ k = 1 ∨ k = 2 ∨ k = 3 ∨ k = 4 ∨ k = 5 ∨ k = 6 ∨ k = 7 ∨ k = 8 := by omega
  rcases this with rfl | rfl | rfl | rfl | rfl | rfl | rfl | rfl | rfl <;> decide
theorem mMax_N {a b : Nat} (ha : a < 2 ^ 31) (hb : b < 2 ^ 31) : mMax (nI a) (nI b) = nI (max a b) := by
  unfold mMax
  by_cases q : a < b
  · rw [if_pos (nI_lt q hb), Nat.max_eq_right (by omega)]
  · rw [if_neg (nI_nlt (by omega) ha), Nat.max_eq_left (by omega)]
section RK
variable {t : Nat → Int32} {n p m : Nat} {it : Nat → Int32} {r1 r2 r3 : Nat × Int32 × Int32}
theorem riK_0 (h1 : r1 = nmP t n p 0) (h2 : r2 = blR t n r1) (h3 : r3 = dgR t n r2) : riK t n p m it 0 = (r3.1, r3.2.1, m + 1, upd (upd (upd it (3 * m) 0) (1 + 3 * m) r1.2.2) (2 + 3 * m) r3.2.2) := by
  rw [h3, h2, h1]; rfl
theorem riK_1 (h1 : r1 = nmP t n p 0) : riK t n p m it 1 = (r1.1, r1.2.1, m + 1, upd (upd it (3 * m) 1) (1 + 3 * m) r1.2.2) := by
  rw [h1]; rfl
theorem riK_2 (h1 : r1 = sgP t n 48 57 p 0) (h2 : r2 = blR t n r1) (h3 : r3 = nmR t n r2) : riK t n p m it 2 = (r3.1, r3.2.1, m + 1, upd (upd (upd it (3 * m) 2) (1 + 3 * m) r1.2.2) (2 + 3 * m) r3.2.2) := by
  rw [h3, h2, h1]; rfl
theorem riK_3 (h1 : r1 = sgP t n 48 57 p 0) (h2 : r2 = blR t n r1) (h3 : r3 = nmR t n r2) : riK t n p m it 3 = (r3.1, r3.2.1, m + 1, upd (upd (upd it (3 * m) 3) (1 + 3 * m) r1.2.2) (2 + 3 * m) r3.2.2) := by
  rw [h3, h2, h1]; rfl
theorem riK_4 (h1 : r1 = sgP t n 48 57 p 0) (h2 : r2 = blR t n r1) (h3 : r3 = nmR t n r2) : riK t n p m it 4 = (r3.1, r3.2.1, m + 1, upd (upd (upd it (3 * m) 4) (1 + 3 * m) r1.2.2) (2 + 3 * m) r3.2.2) := by
  rw [h3, h2, h1]; rfl
theorem riK_5 : riK t n p m it 5 = (p, 0, m + 1, upd (upd it (3 * m) 5) (1 + 3 * m) 0) := rfl
theorem riK_6 (h1 : r1 = sgP t n 48 57 p 0) : riK t n p m it 6 = (r1.1, r1.2.1, m + 1, upd (upd it (3 * m) 6) (1 + 3 * m) r1.2.2) := by
  rw [h1]; rfl
theorem riK_7 (h1 : r1 = sgP t n 48 57 p 0) : riK t n p m it 7 = (r1.1, r1.2.1, m + 1, upd (upd it (3 * m) 7) (1 + 3 * m) r1.2.2) := by
  rw [h1]; rfl
theorem riK_8 : riK t n p m it 8 = (p, 0, m + 1, upd (upd it (3 * m) 8) (1 + 3 * m) 0) := rfl
end RK
