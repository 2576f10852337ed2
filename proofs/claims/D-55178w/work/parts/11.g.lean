/-! ===== THE G-LAYER: one abstract heap (a function from addresses to things), one judgement G, one kind of contract gCt (returns or throws) ===== -/
abbrev AH : Type := Nat → Option va_E
abbrev gRes : Type := Option Value ⊕ Nat
abbrev gK : Type := Launch × va_G × (Nat → ClassId) × Nat × AH × (Nat → Nat)
abbrev gD (K : gK) : va_G := K.2.1
abbrev gT (K : gK) : Nat → ClassId := K.2.2.1
abbrev gz (K : gK) : Nat := K.2.2.2.1
abbrev gOld (K : gK) : AH := K.2.2.2.2.1
abbrev gAd (K : gK) : Nat → Nat := K.2.2.2.2.2
def gA (K : gK) : Nat → Prop := fun q => gz K ≤ q
def gTy (t : Nat) : FieldType := match t with
  | 0 => .int
  | 1 => .byte
  | 2 => .boolean
  | 3 => .char
  | 4 => .long
  | 5 => .double
  | 6 => .object "java/lang/Object"
  | _ => .object "java/lang/String"
def gTys (K : gK) : List (ClassId × FieldType) := (List.range 8).map fun t => (gT K t, gTy t)
theorem gTys_at (K : gK) {t : Nat} (h : t < 8) : (gTys K)[t]? = some (gT K t, gTy t) := by
  simp [gTys, h]
/-- an array's element as a value -/
def gVal (d : (Nat → Int32) ⊕ (Nat → Int64) ⊕ (Nat → UInt32) ⊕ (Nat → UInt64) ⊕ (Nat → Option Nat)) (j : Nat) : Value := match d with
  | .inl f => .int (f j)
  | .inr (.inl f) => .long (f j)
  | .inr (.inr (.inl f)) => .float (f j)
  | .inr (.inr (.inr (.inl f))) => .double (f j)
  | .inr (.inr (.inr (.inr f))) => va_rf (f j)
theorem gVal_cell (cA : ClassId) (n : Nat) (d : (Nat → Int32) ⊕ (Nat → Int64) ⊕ (Nat → UInt32) ⊕ (Nat → UInt64) ⊕ (Nat → Option Nat)) : vp_cell cA (n, d) = arrV cA n (gVal d) := by
  rcases d with f | f | f | f | f <;> rfl
/-- what a thing that stood before the law's start is known by -/
def gOat (K : gK) (a : Nat) (e : va_E) (U : State) (H : Heap) : Prop := match e with
  | .inr o => ∃ (r : vw_C) (cell : Cell), gCl[o.1]? = some r ∧ H[a]? = some cell ∧ cell.cls = (gD K).1 o.1 ∧ cell.vm ≠ .unknown ∧ cell.vm.isStatics = false ∧ ∀ k, k < r.2.2 → cell.slots[(gD K).2 o.1 k]? = some (vp_V o.2 k)
  | .inl x => ∃ (t : Nat) (cell : Cell), t < 8 ∧ x.1 = gT K t ∧ H[a]? = some cell ∧ U.isArrayOf cell (gTy t) ∧ cell.vm ≠ .unknown ∧ cell.vm.isStatics = false ∧ x.2.1 ≤ cell.slots.size ∧ cell.slots.size.toInt32 = Int32.ofNat x.2.1 ∧ cell.cls = gT K t ∧ ∀ j, j < x.2.1 → cell.slots[j]? = some (gVal x.2.2 j)
def gH (K : gK) (h : AH) (H : Heap) : Prop := ∃ ws : va_W, va_P (gD K) gCl ws H ∧ va_D (gA K) ws ∧ ∀ (a : Nat) (e : va_E), h a = some e ↔ ((a, e) ∈ ws ∨ gOld K a = some e)
/-- a heap with one place changed -/
def gu (h : AH) (a : Nat) (e : va_E) : AH := fun x => if x = a then some e else h x
theorem gu_s {h : AH} {a : Nat} {e : va_E} : gu h a e a = some e := by simp [gu]
theorem gu_n {h : AH} {a x : Nat} {e : va_E} (hx : x ≠ a) : gu h a e x = h x := by simp [gu, hx]
theorem gu_o {h : AH} {a x : Nat} {e ex : va_E} (hx : h x = some ex) (hn : x ≠ a) : gu h a e x = some ex := by rw [gu_n hn]; exact hx
/-- a new thing: what stood stays -/
theorem gu_f {h : AH} {a x : Nat} {e ex : va_E} (hx : h x = some ex) (hn : h a = none) : gu h a e x = some ex := gu_o hx (fun z => by rw [z, hn] at hx; cases hx)
/-- things of different classes lie apart -/
theorem gne {h : AH} {a x : Nat} {i j : Nat} {f g : List Value} (hx : h x = some (.inr (i, f))) (ha : h a = some (.inr (j, g))) (hij : i ≠ j) : x ≠ a := by
  rintro rfl
  rw [hx] at ha
  cases ha
  exact hij rfl
theorem gneA {h : AH} {a x : Nat} {i : Nat} {f : List Value} {y : ClassId × vp_A} (hx : h x = some (.inr (i, f))) (ha : h a = some (.inl y)) : x ≠ a := by
  rintro rfl
  rw [hx] at ha
  cases ha
theorem gneB {h : AH} {a x : Nat} {i : Nat} {f : List Value} {y : ClassId × vp_A} (hx : h x = some (.inl y)) (ha : h a = some (.inr (i, f))) : x ≠ a := by
  rintro rfl
  rw [hx] at ha
  cases ha
/-- h1 has all that h has -/
def gE (h h1 : AH) : Prop := ∀ a e, h a = some e → h1 a = some e
theorem gE.rf {h : AH} : gE h h := fun _ _ q => q
theorem gE.tr {h h1 h2 : AH} (a : gE h h1) (b : gE h1 h2) : gE h h2 := fun x e q => b x e (a x e q)
theorem gE.new {h : AH} {a : Nat} {e : va_E} (hn : h a = none) : gE h (gu h a e) := fun _ _ q => gu_f q hn
theorem gE.trn {h h1 : AH} {a : Nat} {e : va_E} (h0 : gE h h1) (hn : h1 a = none) : gE h (gu h1 a e) := h0.tr (gE.new hn)
theorem gE.no {h h1 : AH} {a : Nat} (h0 : gE h h1) (hn : h1 a = none) : h a = none := by
  cases q : h a with
  | none => rfl
  | some e => rw [h0 _ _ q] at hn; cases hn
/-- a place written that h has not -/
theorem gE.wr {h h1 : AH} {a : Nat} {e : va_E} (h0 : gE h h1) (hn : h a = none) : gE h (gu h1 a e) := fun x e2 q => by
  refine gu_o (h0 _ _ q) ?_
  rintro rfl
  rw [hn] at q
  cases q
theorem gu_gu {h : AH} {a : Nat} {e e' : va_E} : gu (gu h a e) a e' = gu h a e' := by
  funext x
  by_cases q : x = a <;> simp [gu, q]
theorem gu_id {h : AH} {a : Nat} {e : va_E} (ha : h a = some e) : gu h a e = h := by
  funext x
  by_cases q : x = a
  · subst q; rw [gu_s, ha]
  · rw [gu_n q]
theorem gu_comm {h : AH} {a b : Nat} {e e' : va_E} (hab : a ≠ b) : gu (gu h a e) b e' = gu (gu h b e') a e := by
  funext x
  by_cases q : x = a
  · subst q; simp [gu, hab]
  · by_cases q2 : x = b
    · subst q2; simp [gu, q]
    · simp [gu, q, q2]

/-! the heap's rows -/
theorem gH.look {K : gK} {h : AH} {H : Heap} (hH : gH K h H) {a : Nat} {e : va_E} (ha : h a = some e) (hn : gOld K a = none) :
    ∃ (ws : va_W) (q0 : Nat), va_P (gD K) gCl ws H ∧ va_D (gA K) ws ∧ ws[q0]? = some (a, e) ∧ ∀ (a : Nat) (e : va_E), h a = some e ↔ ((a, e) ∈ ws ∨ gOld K a = some e) := by
  obtain ⟨ws, hP, hD, hw⟩ := hH
  rcases (hw a e).mp ha with q | q
  · obtain ⟨i, hi⟩ := List.getElem?_of_mem q
    exact ⟨ws, i, hP, hD, hi, hw⟩
  · rw [hn] at q; cases q
theorem gH.put {K : gK} {h : AH} {H1 : Heap} {ws : va_W} {q0 a : Nat} {e e1 : va_E} (hw : ∀ (a : Nat) (e : va_E), h a = some e ↔ ((a, e) ∈ ws ∨ gOld K a = some e)) (hq : ws[q0]? = some (a, e)) (hD0 : va_D (gA K) ws) (hn : gOld K a = none)
    (hP : va_P (gD K) gCl (ws.set q0 (a, e1)) H1) (hD : va_D (gA K) (ws.set q0 (a, e1))) : gH K (gu h a e1) H1 := by
  have hlt : q0 < ws.length := (List.getElem?_eq_some_iff.mp hq).1
  refine ⟨_, hP, hD, fun x ex => ?_⟩
  by_cases hx : x = a
  · subst hx
    rw [gu_s]
    constructor
    · intro z
      cases z
      exact Or.inl (List.mem_of_getElem? (i := q0) (by rw [List.getElem?_set_self hlt]))
    · rintro (z | z)
      · obtain ⟨i, hi⟩ := List.getElem?_of_mem z
        have hs : (ws.set q0 (x, e1))[q0]? = some (x, e1) := List.getElem?_set_self hlt
        have := hD.1 i q0 _ _ hi hs rfl
        subst this
        rw [hs] at hi
        cases hi
        rfl
      · rw [hn] at z; cases z
  · rw [gu_n hx, hw]
    constructor
    · rintro (z | z)
      · obtain ⟨i, hi⟩ := List.getElem?_of_mem z
        refine Or.inl (List.mem_of_getElem? (i := i) ?_)
        rw [List.getElem?_set_ne (by rintro rfl; rw [hq] at hi; cases hi; exact hx rfl)]
        exact hi
      · exact Or.inr z
    · rintro (z | z)
      · obtain ⟨i, hi⟩ := List.getElem?_of_mem z
        refine Or.inl (List.mem_of_getElem? (i := i) ?_)
        by_cases hqi : q0 = i
        · subst hqi
          rw [List.getElem?_set_self hlt] at hi
          cases hi
          exact absurd rfl hx
        · rw [List.getElem?_set_ne hqi] at hi
          exact hi
      · exact Or.inr z
theorem gH.push {K : gK} {h : AH} {H1 : Heap} {ws : va_W} {q : Nat} {e : va_E} (ho : ∀ a e, gOld K a = some e → a < gz K) (hw : ∀ (a : Nat) (e : va_E), h a = some e ↔ ((a, e) ∈ ws ∨ gOld K a = some e))
    (hP : va_P (gD K) gCl (ws ++ [(q, e)]) H1) (hD : va_D (gA K) (ws ++ [(q, e)])) : h q = none ∧ gOld K q = none ∧ gH K (gu h q e) H1 := by
  have hl : (ws ++ [(q, e)])[ws.length]? = some (q, e) := by simp
  have hzq : gz K ≤ q := hD.2 _ _ hl
  have hnq : gOld K q = none := by
    cases z : gOld K q with
    | none => rfl
    | some e9 => exact absurd (ho _ _ z) (by omega)
  have hfr : ∀ e9, (q, e9) ∉ ws := by
    intro e9 z
    obtain ⟨i, hi⟩ := List.getElem?_of_mem z
    have hil : i < ws.length := (List.getElem?_eq_some_iff.mp hi).1
    have h2 : (ws ++ [(q, e)])[i]? = some (q, e9) := by rw [List.getElem?_append_left hil]; exact hi
    have := hD.1 i ws.length _ _ h2 hl rfl
    omega
  have hnone : h q = none := by
    cases z : h q with
    | none => rfl
    | some e9 =>
      rcases (hw q e9).mp z with y | y
      · exact absurd y (hfr e9)
      · rw [hnq] at y; cases y
  refine ⟨hnone, hnq, _, hP, hD, fun x ex => ?_⟩
  by_cases hx : x = q
  · subst hx
    rw [gu_s]
    constructor
    · intro z; cases z; exact Or.inl (by simp)
    · rintro (z | z)
      · rcases List.mem_append.mp z with y | y
        · exact absurd y (hfr ex)
        · simp at y; rw [y]
      · rw [hnq] at z; cases z
  · rw [gu_n hx, hw]
    constructor
    · rintro (z | z)
      · exact Or.inl (List.mem_append_left _ z)
      · exact Or.inr z
    · rintro (z | z)
      · rcases List.mem_append.mp z with y | y
        · exact Or.inl y
        · simp at y; exact absurd y.1 hx
      · exact Or.inr z
/-! ===== what holds of the machine all through the run ===== -/
def gNk (w : Cond) : Bool := match w with
  | .fieldLinkNest .. => true
  | .methodLinkNest .. => true
  | .castable .. => true
  | .declares .. => true
  | .privateMethod .. => true
  | _ => false
/-- words of the tables that don't ride in the lists -/
def gN (U : State) : Prop := (∀ w ∈ lw_tbl, gNk w = true → va_Nw w U) ∧ (∀ q ∈ gFws, va_Fw q.1 q.2.1 q.2.2 U) ∧ va_AO "java/lang/Object" U ∧ va_AO "java/lang/String" U ∧ (∀ w ∈ gDfl, va_Nw w U) ∧ (∀ q ∈ gNcs, va_Nc q.1 q.2 U)
theorem gLd_warm {C : String} {x y : MethodName} {s U : State} (hW : s.WarmedH U.vm) (hZ : va_Nw (.landsInDefault C x y) s) : va_Nw (.landsInDefault C x y) U := by
  have h1 : (Cond.landsInDefault C x y).before #[] (s.setVm U.vm) = true := (Cond.landsInDefault_setVm hW.alike (State.methodFound?_setVm hW.alike _ _ _)).trans hZ
  exact h1
theorem gPv_warm {y : MethodName} {s U : State} (hW : s.WarmedH U.vm) (hZ : va_Nw (.privateMethod y) s) : va_Nw (.privateMethod y) U := by
  have h1 : (Cond.privateMethod y).before #[] (s.setVm U.vm) = true := (Cond.privateMethod_setVm hW.alike y).trans hZ
  exact h1
theorem gN.warm {s U : State} (hW : s.WarmedH U.vm) (h : gN s) : gN U := by
  obtain ⟨h1, h2, h3, h4, h5, h6⟩ := h
  refine ⟨fun w hw hk => ?_, fun q hq => ?_, h3.moved hW.alike, h4.moved hW.alike, fun w hw => ?_, fun q hq => (h6 q hq).moved hW.alike⟩
  · have z := h1 w hw hk
    cases w <;> first | (cases hk; done) | exact z.warmF hW | exact z.warmM hW | exact z.warmC hW | exact z.warmD hW | exact gPv_warm hW z
  · refine (h2 q hq).moved ?_ hW.alike
    exact gFws_ok q hq
  · rcases gDfl_ok w hw with q | q
    · exact word_at hW (good_of_word q) (h5 w hw)
    · have z := h5 w hw
      cases w <;> first | (cases q; done) | exact gLd_warm hW z
/-- statics -/
def gZ (K : gK) (U : State) (H : Heap) : Prop := (∀ z ∈ gZs K, va_Z z.1 z.2.1 z.2.2.1 z.2.2.2 (gA K) U H) ∧ vx_Zq Bundle.tN "UNASSIGNED_STACK" Bundle.steD (gA K) U H ∧ vx_Zq Bundle.tN "SUPPRESSED_SENTINEL" Bundle.listD (gA K) U H ∧ va_Zq "jdk/internal/util/Preconditions" "SIOOBE_FORMATTER" "Ljava/util/function/BiFunction;" (gA K) U H
theorem gZ.to {K : gK} {s U : State} {H H1 : Heap} (hvm : s.vm.Alike U.vm) (hq : ∀ a : Nat, a < H.size → ¬ gA K a → H1[a]? = H[a]?) (h : gZ K s H) : gZ K U H1 :=
  ⟨fun z hz => ((h.1 z hz).kept hq).moved hvm, (h.2.1.kept hq).moved hvm, (h.2.2.1.kept hq).moved hvm, (h.2.2.2.kept hq).moved hvm⟩
/-- the String constants -/
def gSr (K : gK) (U : State) : Prop := ∀ q ∈ gStrs, vk_R q.1 q.2.1 q.2.2.1 (gAd K q.2.2.2) U
def gO (K : gK) (U : State) (H : Heap) : Prop := ∀ a e, gOld K a = some e → a < gz K ∧ gOat K a e U H
theorem gO.to {K : gK} {s U : State} {H H1 : Heap} (hvm : s.vm.Alike U.vm) (hq : ∀ a : Nat, a < H.size → ¬ gA K a → H1[a]? = H[a]?) (h : gO K s H) : gO K U H1 := by
  intro a e ha
  obtain ⟨hz, hh⟩ := h a e ha
  refine ⟨hz, ?_⟩
  have hna : ¬ gA K a := by unfold gA; omega
  cases e with
  | inr o =>
    obtain ⟨r, cell, q1, q2, q3⟩ := hh
    exact ⟨r, cell, q1, by rw [hq a (Array.getElem?_eq_some_iff.mp q2).1 hna]; exact q2, q3⟩
  | inl x =>
    obtain ⟨t, cell, q1, q2, q3, q4, q5⟩ := hh
    exact ⟨t, cell, q1, q2, by rw [hq a (Array.getElem?_eq_some_iff.mp q3).1 hna]; exact q3, State.isArrayOf_alike hvm q4, q5⟩
def gSt (K : gK) (U : State) : Prop := va_K (gD K) gCl (gTys K) U ∧ gO K U U.heap ∧ gZ K U U.heap ∧ gN U ∧ gSr K U ∧ K.1.stackTraces = false ∧ (∀ i j, i < 8 → j < 8 → gT K i = gT K j → i = j) ∧ gz K ≤ U.heap.size ∧ va_Mi "[Ljava/lang/Object;" (gAd K 200) U
theorem gSt.to {K : gK} {s U : State} (hW : s.WarmedH U.vm) (hz : s.heap.size ≤ U.heap.size) (hq : ∀ a : Nat, a < s.heap.size → ¬ gA K a → U.heap[a]? = s.heap[a]?) (h : gSt K s) : gSt K U := by
  obtain ⟨h1, h2, h3, h4, h5, h6, h7, h8, h9⟩ := h
  exact ⟨va_K.moved hW.alike h1, h2.to hW.alike hq, h3.to hW.alike hq, h4.warm hW, fun q hq => vk_R.warm hW (h5 q hq), h6, h7, Nat.le_trans h8 hz, h9.moved hW.alike⟩
def gPre (K : gK) (h : AH) (av : List Value) : Array Value → State → Prop := fun v U => v = av.toArray ∧ gSt K U ∧ gH K h U.heap
theorem gPre.blind {K : gK} {h : AH} {av : List Value} : FrameBlind (gPre K h av) := by
  intro a U g mk q
  obtain ⟨q1, q2, q3⟩ := q
  refine ⟨q1, ?_, q3⟩
  exact gSt.to (s := U) (U := U.calling g mk a) (State.WarmedH.refl U) (Nat.le_refl _) (fun _ _ _ => rfl) q2
def gQ (K : gK) (post : gRes → AH → Prop) (mc ms : Nat) : State → Outcome → State → Prop := fun st o t =>
  (∃ (v : Option Value) (h1 : AH), o = .returned v ∧ post (.inl v) h1 ∧ gH K h1 t.heap ∧ va_F (gA K) st t ∧ ∃ L, FrameEnd st o t L mc ms ∧ ∀ q ∈ L, gA K q.base) ∨
  (∃ (q : Nat) (h1 : AH), o = .threw q ∧ post (.inr q) h1 ∧ gOld K q = none ∧ gH K h1 t.heap ∧ va_F (gA K) st t ∧ st.WarmedH t.vm ∧ ∃ L, st.sameButNew ({ t with vm := st.vm } : State) L mc ms ∧ ∀ z ∈ L, gA K z.base)
abbrev gRm (f lo mc ms : Nat) : Room := { frames := f, cells := mc, slots := ms, locals := lo }
/-- a contract: from the heap h, with these arguments -/
def gCt (K : gK) (y : MethodName) (w0 : Cond) (f lo mc ms : Nat) (h : AH) (av : List Value) (post : gRes → AH → Prop) : Prop :=
  MetFree K.1 y (headSpec (w0 :: lw_all) (gRm f lo mc ms)) (gPre K h av) (fun _ _ _ _ _ => True) (fun _ st o t => gQ K post mc ms st o t)
def gMQ (K : gK) (below : List Frame) (post : gRes → AH → Prop) (s : State) (R : Room) : State → Prop := fun t => ∃ o, t.status = .running ∧ Ended t below o ∧ gQ K post R.cells R.slots s o t
def gFix (K : gK) (p : Program) (s : State) (m : MethodId) (args : Array Value) (meth : Method) (c : Code) (cc : ByteArray) (nL : Nat) (own : String) (ret : Option FieldType) : Prop :=
  p.tables.exec = Jvm.exec ∧ c.code = cc ∧ c.maxLocals = nL ∧ s.vm.findClass own = some m.cls ∧ (∀ w ∈ lw_all, w.before args s = true) ∧ meth.sig.returnType = ret ∧ meth.locks = false ∧ gSt K s
def G (K : gK) (p : Program) (e : Env) (s : State) (m : MethodId) (args : Array Value) (below : List Frame) (meth : Method) (c : Code) (R : Room) (nL : Nat) (post : gRes → AH → Prop) (h : AH) (b bs : Nat) (pc : Nat) (lv : List (Nat × Value)) (st : List Value) : Prop :=
  ∀ (H : Heap) (locs : List Loc) (ls : Array Slot) (kc ks : Nat), gH K h H → va_S (gA K) s.heap H locs → lv_has ls nL lv → kc + b ≤ R.cells → ks + bs ≤ R.slots → W p K.1 e R s m args below meth c H locs kc ks (gMQ K below post s R) (F0 m pc ls st)
def GX (K : gK) (p : Program) (e : Env) (s : State) (m : MethodId) (args : Array Value) (below : List Frame) (meth : Method) (c : Code) (R : Room) (nL : Nat) (post : gRes → AH → Prop) (h : AH) (b bs : Nat) (pc : Nat) (lv : List (Nat × Value)) (q : Nat) : Prop :=
  ∀ (H : Heap) (locs : List Loc) (ls : Array Slot) (kc ks : Nat) (rest : List Value), gH K h H → va_S (gA K) s.heap H locs → lv_has ls nL lv → kc + b ≤ R.cells → ks + bs ≤ R.slots → vx_W p K.1 e R s m args below meth c H locs kc ks (gMQ K below post s R) (F0 m pc ls rest) q
