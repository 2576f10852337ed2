/-! ===== COLLECTED LISTS ===== -/
def qOns (f : Nat → Int32) (b : Int32) (n : Nat) : List Nat := (List.range n).filter (fun k => decide (f (44 + 2 * k) = b))
theorem qOns_s {f : Nat → Int32} {b : Int32} {n : Nat} : qOns f b (n + 1) = if f (44 + 2 * n) = b then qOns f b n ++ [n] else qOns f b n := by
  unfold qOns
  rw [List.range_succ, List.filter_append]
  by_cases q : f (44 + 2 * n) = b <;> simp [q]
theorem filt_len {P : Nat → Bool} {n : Nat} : ((List.range n).filter P).length ≤ n := by
  have := List.length_filter_le P (List.range n)
  rwa [List.length_range] at this
theorem qOns_len {f : Nat → Int32} {b : Int32} {n : Nat} : (qOns f b n).length ≤ n := filt_len
theorem qLow_len {f : Nat → Int32} {n : Nat} : (qLow f n).length ≤ n := filt_len
theorem qAb_len {f : Nat → Int32} {z : Int32} {n : Nat} : (qAb f z n).length ≤ n := filt_len
theorem filt_lt {P : Nat → Bool} {n i : Nat} (h : i < ((List.range n).filter P).length) : ((List.range n).filter P).getD i 0 < n := List.mem_range.mp (List.mem_filter.mp (getD_mem h)).1
theorem qOns_lt {f : Nat → Int32} {b : Int32} {n i : Nat} (h : i < (qOns f b n).length) : (qOns f b n).getD i 0 < n := filt_lt h
theorem qLow_gt {f : Nat → Int32} {n i : Nat} (h : i < (qLow f n).length) : (qLow f n).getD i 0 < n := filt_lt h
theorem qAb_lt {f : Nat → Int32} {z : Int32} {n i : Nat} (h : i < (qAb f z n).length) : (qAb f z n).getD i 0 < n := filt_lt h
theorem srt_lt {P : Nat → Bool} {o : Nat → Nat} {m n i : Nat} (hp : sPerm o n) (hm : m ≤ n) (h : i < (srt P o m).length) : (srt P o m).getD i 0 < n := by
  obtain ⟨j, h1, h2, -⟩ := srt_mem.mp (getD_mem h)
  rw [← h2]; exact hp.1 j (by omega)
theorem app_get {W : List Nat} {k i : Nat} : (W ++ [k]).getD i 0 = if i = W.length then k else W.getD i 0 := by
  by_cases q : i < W.length
  · rw [if_neg (by omega)]; simp [List.getD, List.getElem?_append_left q]
  · by_cases r : i = W.length
    · subst r; simp [List.getD]
    · rw [if_neg r]
      simp only [List.getD]
      rw [List.getElem?_eq_none (by simp; omega), List.getElem?_eq_none (by omega)]
theorem col_p {B : Nat → Nat} {W : List Nat} {k i : Nat} : lsP (fun i => B (W.getD i 0)) W.length (B k) i = B ((W ++ [k]).getD i 0) := by
  unfold lsP
  rw [app_get]
  by_cases q : i = W.length
  · rw [if_pos q, if_pos q]
  · rw [if_neg q, if_neg q]
theorem col_i {B : Nat → Nat} {W : List Nat} {k i : Nat} : lsI (fun i => B (W.getD i 0)) (plc k W) (B k) i = B ((ins k W).getD i 0) := by
  unfold lsI
  rw [ins_get]
  by_cases q : i < plc k W
  · rw [if_pos q, if_pos q]
  · rw [if_neg q, if_neg q]
    by_cases r : i = plc k W
    · rw [if_pos r, if_pos r]
    · rw [if_neg r, if_neg r]
theorem qBt_1 {f : Nat → Int32} {nc c x y : Nat} (h : mWith f nc x c ≠ mWith f nc y c) : qBt f nc c x y = decide (mWith f nc x c < mWith f nc y c) := by
  unfold qBt; exact decide_eq_decide.mpr (by rw [if_pos h])
theorem qBt_2 {f : Nat → Int32} {nc c x y : Nat} (h : mWith f nc x c = mWith f nc y c) (h2 : f (13 + 4 * x) ≠ f (13 + 4 * y)) : qBt f nc c x y = decide (f (13 + 4 * x) < f (13 + 4 * y)) := by
  unfold qBt; exact decide_eq_decide.mpr (by rw [if_neg (fun z => z h), if_pos h2])
theorem qBt_3 {f : Nat → Int32} {nc c x y : Nat} (h : mWith f nc x c = mWith f nc y c) (h2 : f (13 + 4 * x) = f (13 + 4 * y)) : qBt f nc c x y = decide (nI x < nI y) := by
  unfold qBt; exact decide_eq_decide.mpr (by rw [if_neg (fun z => z h), if_neg (fun z => z h2)])
theorem qBl_0 {f : Nat → Int32} {nc c m : Nat} {l : List Nat} (h : qBl f nc c l m = none) : qBl f nc c l (m + 1) = some (l.getD m 0) := by
  simp only [qBl, h]
theorem qBl_1 {f : Nat → Int32} {nc c m b : Nat} {l : List Nat} (h : qBl f nc c l m = some b) (q : qBt f nc c (l.getD m 0) b = true) : qBl f nc c l (m + 1) = some (l.getD m 0) := by
  simp only [qBl, h, q, if_true]
theorem qBl_2 {f : Nat → Int32} {nc c m b : Nat} {l : List Nat} (h : qBl f nc c l m = some b) (q : ¬ qBt f nc c (l.getD m 0) b = true) : qBl f nc c l (m + 1) = some b := by
  simp only [qBl, h]; rw [if_neg q]
theorem qBl_n {f : Nat → Int32} {nc c m : Nat} {l : List Nat} (h : qBl f nc c l m = none) : m = 0 := by
  cases m with
  | zero => rfl
  | succ m =>
    simp only [qBl] at h
    split at h
    · cases h
    · split at h <;> cases h
/-- the cue with a light -/
def qWi (f : Nat → Int32) (o : Nat → Nat) (z : Int32) : Nat → Option Nat
  | 0 => none
  | k + 1 => if f (83 + 4 * o k) = z then some (o k) else qWi f o z k
theorem qWi_s {f : Nat → Int32} {o : Nat → Nat} {z : Int32} {k : Nat} : qWi f o z (k + 1) = if f (83 + 4 * o k) = z then some (o k) else qWi f o z k := rfl
theorem qWi_lt {f : Nat → Int32} {o : Nat → Nat} {z : Int32} {n : Nat} (h : sPerm o n) : ∀ {k b : Nat}, k ≤ n → qWi f o z k = some b → b < n := by
  intro k
  induction k with
  | zero => intro b _ h; cases h
  | succ k ih =>
    intro b hk e
    rw [qWi_s] at e
    split at e
    · cases e; exact h.1 k (by omega)
    · exact ih (by omega) e
/-- it is there just if the reference finds it -/
theorem qWi_n {f : Nat → Int32} {o : Nat → Nat} {z : Int32} {n : Nat} (h : sPerm o n) : qWi f o z n = none ↔ qIn f z n = 0 := by
  have a : ∀ k, qWi f o z k = none ↔ ∀ j, j < k → f (83 + 4 * o j) ≠ z := by
    intro k
    induction k with
    | zero => simp [qWi]
    | succ k ih =>
      rw [qWi_s]
      by_cases q : f (83 + 4 * o k) = z
      · rw [if_pos q]
        constructor
        · intro w; cases w
        · intro w; exact absurd q (w k (by omega))
      · rw [if_neg q, ih]
        constructor
        · intro w j hj
          by_cases r : j = k
          · subst r; exact q
          · exact w j (by omega)
        · intro w j hj; exact w j (by omega)
  have b : ∀ k, qIn f z k = 0 ↔ ∀ j, j < k → f (83 + 4 * j) ≠ z := by
    intro k
    induction k with
    | zero => simp [qIn]
    | succ k ih =>
      rw [qIn_s]
      by_cases q : f (83 + 4 * k) = z
      · rw [if_pos (.inr q)]
        constructor
        · intro w; exact absurd w (by decide)
        · intro w; exact absurd q (w k (by omega))
      · by_cases t : qIn f z k = 0
        · rw [if_neg (by simp [t, q])]
          constructor
          · intro _ j hj
            by_cases r : j = k
            · subst r; exact q
            · exact ih.mp t j (by omega)
          · intro _; rfl
        · rw [if_pos (.inl t)]
          constructor
          · intro w; exact absurd w (by decide)
          · intro w; exact absurd (ih.mpr (fun j hj => w j (by omega))) t
  rw [a, b]
  constructor
  · intro w j hj
    obtain ⟨i, hi, e⟩ := h.2.2 j hj
    rw [← e]; exact w i hi
  · intro w j hj; exact w _ (h.1 j hj)
/-! noise by steps -/
theorem nz4 {k : Nat} : nzM 4 1 (k + 1) = nzM 4 1 k + (if (k + 1) % 4 = 0 then 1 else 0) := rfl
theorem nz3 {k : Nat} : nzM 3 1 (k + 1) = nzM 3 1 k + (if (k + 1) % 3 = 0 then 1 else 0) := rfl
/-- answers a new list of the things B i, i in W -/
def lsW (K : gK) (h : AH) (B : Nat → Nat) (W : List Nat) : Option Value → AH → Prop := fun v h9 => ∃ (a d : Nat) (md : Int32), v = some (.ref a) ∧ lsO K (gNw K h) h9 a d W.length (fun i => B (W.getD i 0)) md ∧ gE h h9
theorem col_t {K : gK} {N : Nat → Prop} {h : AH} {a d k : Nat} {B : Nat → Nat} {W : List Nat} {md : Int32} (x : lsO K N h a d (W.length + 1) (lsP (fun i => B (W.getD i 0)) W.length (B k)) md) : lsO K N h a d (W ++ [k]).length (fun i => B ((W ++ [k]).getD i 0)) md := by
  rw [List.length_append]
  exact lsO.c x (fun i _ => col_p)
theorem col_u {K : gK} {N : Nat → Prop} {h : AH} {a d k : Nat} {B : Nat → Nat} {W : List Nat} {md : Int32} (x : lsO K N h a d (W.length + 1) (lsI (fun i => B (W.getD i 0)) (plc k W) (B k)) md) : lsO K N h a d (ins k W).length (fun i => B ((ins k W).getD i 0)) md := by
  rw [ins_len]
  exact lsO.c x (fun i _ => col_i)
/-- the first of a list, once there is one -/
def qHd (W : List Nat) : Nat → Option Nat
  | 0 => none
  | _ + 1 => some (W.getD 0 0)
theorem qHd_0 {W : List Nat} {k : Nat} (h : qHd W k = none) : k = 0 := by
  cases k with
  | zero => rfl
  | succ k => cases h
theorem qHd_1 {W : List Nat} {k b : Nat} (h : qHd W k = some b) : b = W.getD 0 0 ∧ 0 < k := by
  cases k with
  | zero => cases h
  | succ k => cases h; exact ⟨rfl, by omega⟩
theorem pw_get : ∀ {W : List Nat} {i j : Nat}, W.Pairwise (· < ·) → i < j → j < W.length → W.getD i 0 < W.getD j 0 := by
  intro W
  induction W with
  | nil => intro i j _ _ h; simp at h
  | cons a t ih =>
    intro i j hp hij hj
    have h2 := List.pairwise_cons.mp hp
    cases j with
    | zero => omega
    | succ j =>
      have hjt : j < t.length := by simpa using hj
      cases i with
      | zero => simpa using h2.1 _ (getD_mem hjt)
      | succ i => simpa using ih h2.2 (by omega) hjt
theorem qHd_nx {f : Nat → Int32} {nq : Nat} : qHd (qAb f (f 7) nq) (qAb f (f 7) nq).length = xNext f nq := by
  unfold xNext
  rcases e : xNx f (f 7) nq 0 with _ | k
  · rw [qAb_0 e]; rfl
  · have := qAb_h e
    rcases hl : (qAb f (f 7) nq).length with _ | m
    · rw [hl] at this; omega
    · show some _ = some k
      rw [this.1]
theorem ba_step {f : Nat → Int32} {nc w : Nat} {W : List Nat} {k j : Nat} {B l : Nat → Nat} (hW : W.Pairwise (· < ·)) (hk : k < W.length) (h8 : ∀ i, i < W.length → W.getD i 0 < 8) (hj : j ≤ k) (hZ : ∀ b, qBl f nc w W k = some b → l 0 = B b) (h0 : j = 0 → ∀ b, qBl f nc w W k = some b → ¬ qBt f nc w b (W.getD k 0) = true) (h1 : 0 < j → ∀ b, qBl f nc w W k = some b → qBt f nc w b (W.getD k 0) = true) : ∀ b, qBl f nc w W (k + 1) = some b → lsI l j (B (W.getD k 0)) 0 = B b := by
  intro b hb
  rcases e : qBl f nc w W k with _ | c
  · have hk0 := qBl_n e
    rw [qBl_0 e] at hb
    cases hb
    have : j = 0 := by omega
    subst this
    simp [lsI]
  · have hlt : c < W.getD k 0 := by
      obtain ⟨i, hi, rfl⟩ := qBl_lt e
      exact pw_get hW hi hk
    have ht := qBt_t (f := f) (nc := nc) (c := w) hlt (h8 k hk)
    rcases Nat.eq_zero_or_pos j with z | z
    · subst z
      rw [qBl_1 e (ht.mp (h0 rfl c e))] at hb
      cases hb
      simp [lsI]
    · have h2 := h1 z c e
      rw [qBl_2 e (fun q => (ht.mpr q) h2)] at hb
      cases hb
      simp [lsI, z, hZ _ e]
theorem lsd_step {K : gK} {N N' N2 : Nat → Prop} {h h' : AH} {a d n a2 d2 n2 d' : Nat} {l l' l2 : Nat → Nat} {md md' md2 : Int32} (hKA : gKA K) (hl : lsO K N h a d n l md) (hl' : lsO K N' h' a d' (n + 1) l' md') (hd : d' = d ∨ h d' = none) (h2 : lsO K N2 h a2 d2 n2 l2 md2) (hn2 : 0 < n2) (hd9 : 0 < n → d2 ≠ d) : d2 ≠ d' := by
  rcases hd with q | q
  · rcases Nat.eq_zero_or_pos n with z | z
    · rcases hl.2.2.2 with ⟨-, w⟩ | ⟨w, -⟩
      · have k1 := (lsO.ar hl' (Nat.succ_pos _)).1
        rw [q, w] at k1
        unfold gKA at hKA
        rw [hKA] at k1
        cases k1
      · omega
    · rw [q]; exact hd9 z
  · exact gnew q (lsO.ar h2 hn2).2.2
