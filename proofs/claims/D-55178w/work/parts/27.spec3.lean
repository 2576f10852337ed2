/-! ===== PLAYING AHEAD ===== -/
def xCt (P : Nat → Bool) : Nat → Nat
  | 0 => 0
  | n + 1 => xCt P n + (if P n then 1 else 0)
theorem xCt_le {P Q : Nat → Bool} {n : Nat} (h : ∀ j, j < n → P j = true → Q j = true) : xCt P n ≤ xCt Q n := by
  induction n with
  | zero => exact Nat.le_refl _
  | succ n ih =>
    have := ih (fun j hj => h j (by omega))
    have := h n (by omega)
    simp only [xCt]
    cases hp : P n <;> cases hq : Q n <;> simp_all <;> omega
theorem xCt_lt {P Q : Nat → Bool} {n k : Nat} (h : ∀ j, j < n → P j = true → Q j = true) (hk : k < n) (hq : Q k = true) (hp : P k = false) : xCt P n < xCt Q n := by
  induction n with
  | zero => omega
  | succ n ih =>
    simp only [xCt]
    by_cases q : k = n
    · subst q
      have := xCt_le (P := P) (Q := Q) (n := k) (fun j hj => h j (by omega))
      rw [hq, hp]; simp; omega
    · have := ih (fun j hj => h j (by omega)) (by omega)
      have h2 := h n (by omega)
      cases hp : P n <;> cases hq : Q n <;> simp_all <;> omega
theorem xCt_n {P : Nat → Bool} {n : Nat} : xCt P n ≤ n := by
  induction n with
  | zero => exact Nat.le_refl _
  | succ n ih => simp only [xCt]; split <;> omega
theorem xCt_0 {P : Nat → Bool} {n : Nat} (h : xCt P n = 0) : ∀ k, k < n → P k = false := by
  induction n with
  | zero => intro k hk; omega
  | succ n ih =>
    intro k hk
    simp only [xCt] at h
    by_cases q : k = n
    · subst q; cases hp : P k <;> simp_all
    · exact ih (by omega) k (by omega)
/-- how many cues are ahead -/
def xAh (f : Nat → Int32) (nq : Nat) : Nat := xCt (fun k => decide (f 7 < f (83 + 4 * k))) nq
theorem xGo_l {f f' : Nat → Int32} {nc nh nq : Nat} {a : Int32} (h : xGo f nc nh nq = .inl (a, f')) : ∃ k, k < nq ∧ xNext f nq = some k ∧ f 7 < f (83 + 4 * k) ∧ mWhy f nc nh (f (84 + 4 * k)).toNatClampNeg = 0 ∧ a = f (83 + 4 * k) ∧ f' = upd (upd (xLift f (f (84 + 4 * k)).toNatClampNeg (f (85 + 4 * k))) 7 (f (83 + 4 * k))) 8 (f 8 + 1) := by
  unfold xGo at h
  split at h
  · cases h
  · rename_i k hk
    obtain ⟨-, h2, h3⟩ := xNx_lt _ _ _ hk
    unfold xGo1 at h
    split at h
    · rename_i hw
      split at h
      · cases h
      · cases h
        exact ⟨k, by omega, hk, h3, hw, rfl, rfl⟩
    · cases h
theorem xGo_keep {f f' : Nat → Int32} {nb nc nh nq : Nat} {a : Int32} (hL : mL f nb nc nq) (hb : nb ≤ 8) (h : xGo f nc nh nq = .inl (a, f')) : (∀ j, (j < 7 ∨ 43 ≤ j) → f' j = f j) ∧ xAh f' nq < xAh f nq := by
  obtain ⟨k, hk, -, h3, -, -, rfl⟩ := xGo_l h
  obtain ⟨i, hi, hbi⟩ := hL.2 k hk
  rw [hbi, nI_clamp (by omega)]
  have key : ∀ j, (j < 7 ∨ 43 ≤ j) → upd (upd (xLift f i (f (85 + 4 * k))) 7 (f (83 + 4 * k))) 8 (f 8 + 1) j = f j := by
    intro j hj
    rw [pk_un (by omega), pk_un (by omega), xLift_n (by omega) (by omega) (by omega) (by omega)]
  refine ⟨key, ?_⟩
  have e7 : upd (upd (xLift f i (f (85 + 4 * k))) 7 (f (83 + 4 * k))) 8 (f 8 + 1) 7 = f (83 + 4 * k) := by
    rw [pk_un (by decide), pk_us]
  refine xCt_lt (k := k) ?_ hk (by simpa using h3) ?_
  · intro j hj hp
    rw [decide_eq_true_eq, e7, key _ (by omega)] at hp
    exact decide_eq_true (Int32.lt_trans h3 hp)
  · rw [decide_eq_false_iff_not, e7, key _ (by omega)]
    exact fun z => Int32.lt_irrefl z
theorem xGo_C {f f' : Nat → Int32} {nb nc nh nq : Nat} {a : Int32} (hC : mC f nb nc nh nq) (hL : mL f nb nc nq) (h : xGo f nc nh nq = .inl (a, f')) : mC f' nb nc nh nq ∧ mL f' nb nc nq := by
  have hb : nb ≤ 8 := hC.2.1
  have k := (xGo_keep hL hb h).1
  refine ⟨?_, ?_, ?_⟩
  · unfold mC
    rw [k 1 (by omega), k 2 (by omega), k 3 (by omega), k 4 (by omega)]
    exact hC
  · intro j hj; rw [k _ (by omega)]; exact hL.1 j hj
  · intro j hj; rw [k _ (by omega)]; exact hL.2 j hj
theorem xGo_0 {f : Nat → Int32} {nc nh nq : Nat} (h : xAh f nq = 0) : xGo f nc nh nq = .inr (1, some (10, f 4)) := by
  have e : xNext f nq = none := by
    rcases hx : xNext f nq with _ | k
    · rfl
    · obtain ⟨-, h2, h3⟩ := xNx_lt _ _ _ hx
      have := xCt_0 h k (by omega)
      simp [h3] at this
  unfold xGo
  rw [e]
def qPl (nc nh nq : Nat) : Nat → (Nat → Int32) → Nat
  | 0, _ => 0
  | n + 1, f => match xGo f nc nh nq with
    | .inl (_, f') => qPl nc nh nq n f' + 1
    | .inr _ => 0
theorem qPl_l {nc nh nq n : Nat} {f f' : Nat → Int32} {a : Int32} (h : xGo f nc nh nq = .inl (a, f')) : qPl nc nh nq (n + 1) f = qPl nc nh nq n f' + 1 := by
  simp only [qPl, h]
theorem qPl_r {nc nh nq n : Nat} {f : Nat → Int32} {e : Nat × Option (Int32 × Int32)} (h : xGo f nc nh nq = .inr e) : qPl nc nh nq n f = 0 := by
  cases n with
  | zero => rfl
  | succ n => simp only [qPl, h]
theorem qPl_n {nc nh nq n : Nat} : ∀ {f : Nat → Int32}, qPl nc nh nq n f ≤ n := by
  induction n with
  | zero => intro f; exact Nat.le_refl _
  | succ n ih =>
    intro f
    rcases h : xGo f nc nh nq with ⟨a, f'⟩ | e
    · rw [qPl_l h]; have := @ih f'; omega
    · rw [qPl_r h]; omega
/-- the fuel does not matter once it is enough -/
theorem qPl_f {nb nc nh nq : Nat} : ∀ {n m : Nat} {f : Nat → Int32}, mC f nb nc nh nq → mL f nb nc nq → xAh f nq ≤ n → xAh f nq ≤ m → qPl nc nh nq n f = qPl nc nh nq m f := by
  intro n
  induction n with
  | zero =>
    intro m f hC hL h1 h2
    rw [qPl_r (xGo_0 (by omega)), qPl_r (xGo_0 (by omega))]
  | succ n ih =>
    intro m f hC hL h1 h2
    rcases h : xGo f nc nh nq with ⟨a, f'⟩ | e
    · have k := xGo_keep hL hC.2.1 h
      have k2 := xGo_C hC hL h
      obtain ⟨m', rfl⟩ : ∃ m', m = m' + 1 := ⟨m - 1, by omega⟩
      rw [qPl_l h, qPl_l h, ih k2.1 k2.2 (by omega) (m := m') (by omega)]
    · rw [qPl_r h, qPl_r h]
theorem xIv_789 {iv : Nat → Int32} {p : Nat} {d : Option (Int32 × Int32)} : upd (upd (upd (xIv (upd iv 7 0) (.inr (p, d))) 7 0) 8 (iv 8)) 9 (iv 9) = upd iv 7 0 := by
  funext j
  by_cases q9 : j = 9
  · subst q9; rw [pk_us, pk_un (by decide)]
  · by_cases q8 : j = 8
    · subst q8; rw [pk_un (by decide), pk_us, pk_un (by decide)]
    · by_cases q7 : j = 7
      · subst q7; rw [pk_un (by decide), pk_un (by decide), pk_us, pk_us]
      · rw [pk_un q9, pk_un q8, pk_un q7]
        rcases d with _ | ⟨a, b⟩
        · show upd (upd iv 7 0) 7 (nI p) j = _
          rw [pk_un q7]
        · show upd (upd (upd (upd iv 7 0) 7 (nI p)) 8 a) 9 b j = _
          rw [pk_un q9, pk_un q8, pk_un q7]
/-! ===== A CUE ===== -/
def qIn (f : Nat → Int32) (li : Int32) : Nat → Int32
  | 0 => 0
  | k + 1 => if qIn f li k ≠ 0 ∨ f (83 + 4 * k) = li then 1 else 0
def qPos (f : Nat → Int32) (li : Int32) (n : Nat) : Nat := xCt (fun k => decide (f (83 + 4 * k) < li)) n
def qCueSt (f : Nat → Int32) (nq p d : Nat) (li b y u : Int32) : Nat → Int32 := upd (upd (upd (upd (upd (va_cpy f f (83 + 4 * p) (87 + 4 * p) (4 * d)) (83 + 4 * p) li) (84 + 4 * p) b) (85 + 4 * p) y) (86 + 4 * p) u) 4 (nI (nq + 1))
def xCue (f : Nat → Int32) (nb nq : Nat) (li b y u : Int32) : xR := if mIn b 0 (nI nb - 1) = 0 then .inr (1, none) else if qIn f li nq ≠ 0 ∨ mIn li 0 99 = 0 ∨ mIn y 0 20 = 0 ∨ mIn u 0 9 = 0 then .inr (2, none) else if nq = 12 then .inr (3, none) else .inl (nI nq + 1, qCueSt f nq (qPos f li nq) (nq - qPos f li nq) li b y u)
theorem qPos_s {f : Nat → Int32} {li : Int32} {k : Nat} : qPos f li (k + 1) = qPos f li k + (if f (83 + 4 * k) < li then 1 else 0) := by
  simp [qPos, xCt]
theorem qIn_s {f : Nat → Int32} {li : Int32} {k : Nat} : qIn f li (k + 1) = if qIn f li k ≠ 0 ∨ f (83 + 4 * k) = li then 1 else 0 := rfl
theorem qPos_n {f : Nat → Int32} {li : Int32} {n : Nat} : qPos f li n ≤ n := xCt_n
theorem xCue_ok {f : Nat → Int32} {n k : Nat} {x y z u : Int32} : xOk (xCue f n k x y z u) := xOk_if (xOk_i (by decide) (by decide)) (xOk_if (xOk_i (by decide) (by decide)) (xOk_if (xOk_i (by decide) (by decide)) xOk_l))
/-! ===== TEXTS ===== -/
theorem upd_id {f : Nat → Int32} {k : Nat} {x : Int32} (h : f k = x) : upd f k x = f := by
  funext j
  by_cases q : j = k
  · subst q; rw [pk_us, h]
  · rw [pk_un q]
def qCd (x : Int32) (k : Nat) : Int32 := (x.toUInt32 >>> (Int32.toUInt32 (24 - 8 * nI k) &&& Int32.toUInt32 31)).toInt32 &&& 255
def qMn (x : Int32) (k : Nat) : Nat := xCt (fun k => decide (qCd x k ≠ 0)) k
theorem qMn_s {x : Int32} {k : Nat} : qMn x (k + 1) = qMn x k + (if qCd x k = 0 then 0 else 1) := by
  simp [qMn, xCt]
theorem qMn_n {x : Int32} {k : Nat} : qMn x k ≤ k := xCt_n
theorem qMn_m {x : Int32} {k n : Nat} (h : k ≤ n) : qMn x k ≤ qMn x n := by
  induction n with
  | zero => rw [show k = 0 by omega]; exact Nat.le_refl _
  | succ n ih =>
    by_cases q : k = n + 1
    · rw [q]; exact Nat.le_refl _
    · rw [qMn_s]; have := ih (by omega); omega
def qRt (x : Int32) : Nat → Int32
  | 0 => 1
  | k + 1 => if qRt x k ≠ 0 ∧ (qCd x k = 0 ∨ mIn (qCd x k) 32 126 ≠ 0) then 1 else 0
theorem qRt_s {x : Int32} {k : Nat} : qRt x (k + 1) = if qRt x k ≠ 0 ∧ (qCd x k = 0 ∨ mIn (qCd x k) 32 126 ≠ 0) then 1 else 0 := rfl
def qTf (f : Nat → Int32) (n : Nat) (x : Int32) : Nat → Nat → Int32
  | 0 => f
  | k + 1 => if qCd x k = 0 then qTf f n x k else upd (qTf f n x k) (n + qMn x k) (qCd x k)
theorem qTf_s {f : Nat → Int32} {n : Nat} {x : Int32} {k : Nat} : qTf f n x (k + 1) = if qCd x k = 0 then qTf f n x k else upd (qTf f n x k) (n + qMn x k) (qCd x k) := rfl
theorem sh_lt {k : Nat} (h : k ≤ 4) : (24 - 8 * nI k : Int32) < 0 ↔ k = 4 := by
  have : k = 0 ∨ k = 1 ∨ k = 2 ∨ k = 3 ∨ k = 4 := by omega
  rcases this with rfl | rfl | rfl | rfl | rfl <;> decide
theorem sh_s {k : Nat} (h : k < 4) : (24 - 8 * nI k + (-8) : Int32) = 24 - 8 * nI (k + 1) := by
  have : k = 0 ∨ k = 1 ∨ k = 2 ∨ k = 3 := by omega
  rcases this with rfl | rfl | rfl | rfl <;> decide
def qApp (n : Nat) (x : Int32) : xQ := if qRt x 4 = 0 then .inr 1 else if 60 < n + qMn x 4 then .inr 2 else .inl (nI (n + qMn x 4))
def qAppI (iv : Nat → Int32) (n : Nat) (x : Int32) : Nat → Int32 := match qApp n x with
  | .inl _ => upd (upd iv 7 0) 14 (nI (n + qMn x 4))
  | .inr p => upd iv 7 (nI p)
def qAppA (av : Nat → Nat → Int32) (n : Nat) (x : Int32) : Nat → Nat → Int32 := match qApp n x with
  | .inl _ => mu av 13 (qTf (av 13) n x 4)
  | .inr _ => av
theorem qApp_l {iv : Nat → Int32} {av : Nat → Nat → Int32} {n : Nat} {x a : Int32} (h : qApp n x = .inl a) : qAppI iv n x = upd (upd iv 7 0) 14 (nI (n + qMn x 4)) ∧ qAppA av n x = mu av 13 (qTf (av 13) n x 4) := by
  unfold qAppI qAppA
  rw [h]
  exact ⟨rfl, rfl⟩
theorem qApp_r {iv : Nat → Int32} {av : Nat → Nat → Int32} {n p : Nat} {x : Int32} (h : qApp n x = .inr p) : qAppI iv n x = upd iv 7 (nI p) ∧ qAppA av n x = av := by
  unfold qAppI qAppA
  rw [h]
  exact ⟨rfl, rfl⟩
/-! ===== LINES ===== -/
def qPut (f : Nat → Int32) (n : Nat) (l : List Nat) : Nat → Int32 := fun j => if n ≤ j ∧ j < n + l.length then nI (l.getD (j - n) 0) else f j
theorem qPut_0 {f : Nat → Int32} {n : Nat} : qPut f n [] = f := by
  funext j
  unfold qPut
  rw [if_neg]
  simp only [List.length_nil]
  omega
theorem qPut_t {f : Nat → Int32} {n k : Nat} {l : List Nat} (h : k < l.length) : upd (qPut f n (l.take k)) (n + k) (nI (l.getD k 0)) = qPut f n (l.take (k + 1)) := by
  funext j
  have e1 : (l.take k).length = k := by rw [List.length_take]; omega
  have e2 : (l.take (k + 1)).length = k + 1 := by rw [List.length_take]; omega
  by_cases q : j = n + k
  · subst q
    rw [pk_us]
    unfold qPut
    rw [e2, if_pos ⟨by omega, by omega⟩, show n + k - n = k by omega]
    simp [List.getD, List.getElem?_take]
  · rw [pk_un q]
    unfold qPut
    rw [e1, e2]
    by_cases r : n ≤ j ∧ j < n + k
    · rw [if_pos r, if_pos ⟨r.1, by omega⟩]
      have r2 : j - n < k := by omega
      simp [List.getD, List.getElem?_take, r2, Nat.lt_succ_of_lt r2]
    · rw [if_neg r, if_neg (by omega)]
theorem qPut_a {f : Nat → Int32} {n : Nat} {l1 l2 : List Nat} : qPut (qPut f n l1) (n + l1.length) l2 = qPut f n (l1 ++ l2) := by
  funext j
  unfold qPut
  rw [List.length_append]
  by_cases r : n + l1.length ≤ j ∧ j < n + l1.length + l2.length
  · rw [if_pos r, if_pos ⟨by omega, by omega⟩]
    congr 1
    simp only [List.getD]
    rw [List.getElem?_append_right (by omega), show j - n - l1.length = j - (n + l1.length) by omega]
  · rw [if_neg r]
    by_cases r2 : n ≤ j ∧ j < n + l1.length
    · rw [if_pos r2, if_pos ⟨by omega, by omega⟩]
      congr 1
      simp only [List.getD]
      rw [List.getElem?_append_left (by omega)]
    · rw [if_neg r2, if_neg (by omega)]
theorem qPut_1 {f : Nat → Int32} {n c : Nat} : upd f n (nI c) = qPut f n [c] := by
  have := qPut_t (f := f) (n := n) (k := 0) (l := [c]) (by simp)
  simpa [qPut_0] using this
/-- the decimal digits of a number below 10000 -/
def qDg (x : Nat) : List Nat := if x < 10 then [48 + x] else if x < 100 then [48 + x / 10, 48 + x % 10] else if x < 1000 then [48 + x / 100, 48 + x / 10 % 10, 48 + x % 10] else [48 + x / 1000, 48 + x / 100 % 10, 48 + x / 10 % 10, 48 + x % 10]
theorem qDg_1 {x : Nat} (h : x < 10) : qDg x = [48 + x % 10] := by
  rw [qDg, if_pos h, Nat.mod_eq_of_lt h]
theorem qDg_s {x : Nat} (h : 10 ≤ x) (h4 : x < 10000) : qDg x = qDg (x / 10) ++ [48 + x % 10] := by
  unfold qDg
  rw [if_neg (by omega)]
  by_cases a : x < 100
  · rw [if_pos a, if_pos (by omega)]; rfl
  · rw [if_neg a]
    by_cases b : x < 1000
    · rw [if_pos b, if_neg (by omega), if_pos (by omega), Nat.div_div_eq_div_mul]; rfl
    · rw [if_neg b, if_neg (by omega), if_neg (by omega), if_pos (by omega), Nat.div_div_eq_div_mul, Nat.div_div_eq_div_mul]; rfl
theorem qDg_n {x : Nat} : (qDg x).length ≤ 4 := by
  unfold qDg
  split
  · simp
  · split
    · simp
    · split <;> simp
theorem qDg_c {x : Nat} (h : x < 10000) : ∀ c ∈ qDg x, c < 128 := by
  intro c
  unfold qDg
  split
  · simp; omega
  · split
    · simp; omega
    · split <;> simp <;> omega
def gStr (K : gK) (a : Nat) (l : List Nat) : Prop := ∃ (b : Nat) (hv zv : Int32), gOld K a = some (.inr (7, [.ref b, .int 0, .int hv, .int zv])) ∧ gOld K b = some (.inl (gT K 1, l.length, .inl (fun i => nI (l.getD i 0))))
theorem getD_mem {l : List Nat} {k : Nat} (h : k < l.length) : l.getD k 0 ∈ l := by
  have e : l.getD k 0 = l[k] := by simp [List.getD, h]
  rw [e]
  exact List.getElem_mem h
theorem qPut_a0 {f : Nat → Int32} {l1 l2 : List Nat} : qPut (qPut f 0 l1) l1.length l2 = qPut f 0 (l1 ++ l2) := by
  have := qPut_a (f := f) (n := 0) (l1 := l1) (l2 := l2)
  rwa [Nat.zero_add] at this
theorem lnH {K : gK} {h : AH} {o : Nat} {L : Nat → Nat} {iv : Nat → Int32} {av : Nat → Nat → Int32} {l c : List Nat} : mO K h o L (upd (upd iv 11 (nI l.length)) 11 (nI (l.length + c.length))) (mu (mu av 10 (qPut (av 10) 0 l)) 10 (qPut (mu av 10 (qPut (av 10) 0 l) 10) l.length c)) = mO K h o L (upd iv 11 (nI (l ++ c).length)) (mu av 10 (qPut (av 10) 0 (l ++ c))) := by
  simp only [mu_s, mu_mu, upd_upd, qPut_a0, List.length_append]
abbrev qE : List Nat := []
theorem lnH0 {K : gK} {h : AH} {o : Nat} {L : Nat → Nat} {iv : Nat → Int32} {av : Nat → Nat → Int32} : mO K h o L (upd iv 11 0) av = mO K h o L (upd iv 11 (nI qE.length)) (mu av 10 (qPut (av 10) 0 qE)) := by
  rw [qPut_0, mu_id]; rfl
/-- the curtains of a bar, told -/
def qCl (f : Nat → Int32) (b : Int32) : Nat → List Nat
  | 0 => []
  | k + 1 => if f (44 + 2 * k) = b then qCl f b k ++ [32, 99] ++ qDg k else qCl f b k
theorem qCl_s {f : Nat → Int32} {b : Int32} {k : Nat} : qCl f b (k + 1) = if f (44 + 2 * k) = b then qCl f b k ++ [32, 99] ++ qDg k else qCl f b k := rfl
theorem qCl_n {f : Nat → Int32} {b : Int32} {k : Nat} : (qCl f b k).length ≤ 6 * k := by
  induction k with
  | zero => exact Nat.le_refl _
  | succ k ih =>
    rw [qCl_s]
    have := qDg_n (x := k)
    split
    · simp only [List.length_append, List.length_cons, List.length_nil]; omega
    · omega
theorem qDg_h {x : Nat} : (qDg x).length ≤ 4 := qDg_n
def qLn0 (ht ld w : Nat) : List Nat := qDg ht ++ [109, 32] ++ qDg ld ++ [47] ++ qDg (10 * w) ++ [107, 103]
def qLine (f : Nat → Int32) (nc nh i ht ld w : Nat) : List Nat := qLn0 ht ld w ++ qCl f (nI i) nc ++ (if 0 < mWhy f nc nh i then [32, 33] else [])
/-- the cues, told -/
def qQl (f : Nat → Int32) (nq : Nat) (g : Nat → Nat → Nat) : Nat → List Nat
  | 0 => []
  | k + 1 => qQl f nq g k ++ (if 0 < k then [44, 32] else []) ++ qDg (g k 0) ++ [58] ++ qDg (g k 1) ++ [62] ++ qDg (g k 2) ++ (if xNext f nq = some k then [42] else [])
theorem qQl_s {f : Nat → Int32} {nq k : Nat} {g : Nat → Nat → Nat} : qQl f nq g (k + 1) = qQl f nq g k ++ (if 0 < k then [44, 32] else []) ++ qDg (g k 0) ++ [58] ++ qDg (g k 1) ++ [62] ++ qDg (g k 2) ++ (if xNext f nq = some k then [42] else []) := rfl
theorem qDg_2 {x : Nat} (h : x < 100) : (qDg x).length ≤ 2 := by
  unfold qDg
  split
  · simp
  · first | simp | (rw [if_pos h]; simp)
theorem qQl_n {f : Nat → Int32} {nq : Nat} {g : Nat → Nat → Nat} : ∀ {k : Nat}, (∀ j, j < k → g j 0 < 100 ∧ g j 1 < 100 ∧ g j 2 < 100) → (qQl f nq g k).length ≤ 11 * k := by
  intro k
  induction k with
  | zero => intro _; exact Nat.le_refl _
  | succ k ih =>
    intro h
    have h1 := ih (fun j hj => h j (by omega))
    obtain ⟨a, b, c⟩ := h k (by omega)
    have := qDg_2 a; have := qDg_2 b; have := qDg_2 c
    rw [qQl_s]
    simp only [List.length_append, List.length_cons, List.length_nil]
    have e1 : (if 0 < k then [44, 32] else ([] : List Nat)).length ≤ 2 := by split <;> simp
    have e2 : (if xNext f nq = some k then [42] else ([] : List Nat)).length ≤ 1 := by split <;> simp
    omega
def qCues (f : Nat → Int32) (nq : Nat) (g : Nat → Nat → Nat) : List Nat := if nq = 0 then [110, 111, 32, 99, 117, 101, 115] else qQl f nq g nq
theorem qQl_p {f : Nat → Int32} {nq : Nat} {g : Nat → Nat → Nat} {k : Nat} (h : 0 < k) : 0 < (qQl f nq g k).length := by
  obtain ⟨j, rfl⟩ : ∃ j, k = j + 1 := ⟨k - 1, by omega⟩
  rw [qQl_s]
  simp only [List.length_append, List.length_cons, List.length_nil]
  omega
/-- the String constants, by number -/
def sTx (k : Nat) : List Nat := match k with
  | 0 => []
  | 1 => [73, 110, 100, 101, 120, 58, 32]
  | 2 => [44, 32, 83, 105, 122, 101, 58, 32]
  | 3 => [32, 62, 32]
  | 4 => [44, 32]
  | 5 => [42]
  | 6 => [110, 111, 32, 99, 117, 101, 115]
  | 7 => [116, 111, 108, 100]
  | 8 => [117, 110, 114, 101, 99, 111, 103, 110, 105, 122, 101, 100, 32, 98, 97, 115, 105, 99, 32, 116, 121, 112, 101, 58, 32]
  | 9 => [104, 97, 110, 103, 32]
  | 10 => [100, 114, 111, 112, 32]
  | 11 => [97, 100, 100, 32]
  | 12 => [111, 102, 102, 32]
  | 13 => [102, 108, 121, 32]
  | 14 => [103, 111]
  | 15 => [111, 112, 101, 110, 32]
  | 16 => [99, 108, 111, 115, 101, 32]
  | 17 => [121, 101, 97, 114]
  | 18 => [98, 97, 114]
  | 19 => [114, 111, 112, 101]
  | 20 => [99, 117, 114, 116, 97, 105, 110]
  | 21 => [104, 97, 110, 100]
  | 22 => [83, 111, 114, 114, 121, 44, 32, 100, 101, 113, 117, 101, 32, 116, 111, 111, 32, 98, 105, 103]
  | 23 => [109, 111, 118, 101]
  | 24 => [109, 32]
  | 25 => [107, 103]
  | 26 => [32, 99]
  | 27 => [32, 33]
  | 28 => [59, 32]
  | 29 => [47]
  | 30 => [58]
  | 31 => [62]
  | _ => []
def gKS (K : gK) : Prop := ∀ k, k < 32 → gStr K (gAd K k) (sTx k)
theorem xNextI_eq {f : Nat → Int32} {nq k : Nat} (hk : k < nq) (hq : nq ≤ 12) : nI k = xNextI (xNext f nq) ↔ xNext f nq = some k := by
  rcases h : xNext f nq with _ | j
  · simp only [xNextI]
    constructor
    · intro z
      exact absurd (z ▸ nI_pos' (n := k) (by omega) : (0 : Int32) ≤ -1) (by decide)
    · intro z; cases z
  · obtain ⟨-, h2, -⟩ := xNx_lt _ _ _ h
    simp only [xNextI, Option.some.injEq]
    rw [nI_eq (by omega) (by omega)]
    exact eq_comm
