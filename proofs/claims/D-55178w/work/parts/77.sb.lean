/-! ===== TEXT-MAKERS: the bytes ===== -/
/-- n signs t, then nothing -/
def sbD (t : Nat → Int32) (n : Nat) : Nat → Int32 := fun i => if i < n then t i else 0
/-- the first n signs are plain -/
def sbC (t : Nat → Int32) (n : Nat) : Prop := ∀ i, i < n → ∃ k, k < 128 ∧ t i = nI k
theorem sbD_0 {t : Nat → Int32} : sbD t 0 = fun _ => 0 := by
  funext i; simp [sbD]
theorem sbD_i {t : Nat → Int32} {n i : Nat} (h : i < n) : sbD t n i = t i := if_pos h
theorem sbD_cpy {t : Nat → Int32} {n C : Nat} (h : n ≤ C) : va_cpy (sbD t n) (fun _ => 0) 0 0 C = sbD t n := by
  funext i
  by_cases q : i < C
  · rw [pk_cpy_in (Nat.zero_le _) (by omega)]; congr 1; omega
  · rw [pk_cpy_out (by omega)]; unfold sbD; rw [if_neg (by omega)]
theorem sbD_put {t : Nat → Int32} {n : Nat} {l : List Nat} : va_cpy (fun i => nI (l.getD i 0)) (sbD t n) 0 n l.length = sbD (qPut t n l) (n + l.length) := by
  funext i
  by_cases q : n ≤ i ∧ i < n + l.length
  · rw [pk_cpy_in q.1 q.2]
    unfold sbD qPut
    rw [if_pos q.2, if_pos q, Nat.zero_add]
  · rw [pk_cpy_out (by omega)]
    unfold sbD qPut
    by_cases r : i < n
    · rw [if_pos r, if_pos (by omega), if_neg q]
    · rw [if_neg r, if_neg (by omega)]
theorem sbD_1 {t : Nat → Int32} {n : Nat} {c : Int32} : upd (sbD t n) n c = sbD (upd t n c) (n + 1) := by
  funext i
  by_cases q : i = n
  · subst q; rw [pk_us]; unfold sbD; rw [if_pos (by omega), pk_us]
  · rw [pk_un q]; unfold sbD
    by_cases r : i < n
    · rw [if_pos r, if_pos (by omega), pk_un q]
    · rw [if_neg r, if_neg (by omega)]
theorem sbC_1 {t : Nat → Int32} {n k : Nat} (h : sbC t n) (hk : k < 128) : sbC (upd t n (nI k)) (n + 1) := by
  intro i hi
  by_cases q : i = n
  · subst q; exact ⟨k, hk, pk_us⟩
  · rw [pk_un q]; exact h i (by omega)
theorem sbC_p {t : Nat → Int32} {n : Nat} {l : List Nat} (h : sbC t n) (hl : ∀ c ∈ l, c < 128) : sbC (qPut t n l) (n + l.length) := by
  intro i hi
  unfold qPut
  by_cases q : n ≤ i ∧ i < n + l.length
  · rw [if_pos q]
    exact ⟨_, hl _ (by rw [List.getD_eq_getElem?_getD, List.getElem?_eq_getElem (by omega)]; exact List.getElem_mem _), rfl⟩
  · rw [if_neg q]; exact h i (by omega)
theorem sbD_e {t t' : Nat → Int32} {n : Nat} (h : ∀ i, i < n → t i = t' i) : sbD t n = sbD t' n := by
  funext i
  unfold sbD
  by_cases q : i < n
  · rw [if_pos q, if_pos q, h i q]
  · rw [if_neg q, if_neg q]
/-! numbers written out, from the right -/
theorem ng_I {x : Nat} (h : x < 2 ^ 31) : (-(nI x)).toInt = -(x : Int) := by
  rw [Int32.toInt_neg, nI_toInt h]
  exact Int.bmod_eq_of_le (by omega) (by omega)
theorem ng_le {x y : Nat} (hx : x < 2 ^ 31) (hy : y < 2 ^ 31) : -(nI x) ≤ -(nI y) ↔ y ≤ x := by
  rw [Int32.le_iff_toInt_le, ng_I hx, ng_I hy]
  omega
theorem ng_lt {x y : Nat} (hx : x < 2 ^ 31) (hy : y < 2 ^ 31) : -(nI x) < -(nI y) ↔ y < x := by
  rw [Int32.lt_iff_toInt_lt, ng_I hx, ng_I hy]
  omega
theorem ng_div {x : Nat} (hx : x < 2 ^ 31) : -(nI x) / 100 = -(nI (x / 100)) := by
  apply Int32.toInt_inj.mp
  rw [Int32.toInt_div, ng_I hx, ng_I (by omega), show (100 : Int32).toInt = 100 from rfl, Int.neg_tdiv]
  rw [show ((x : Int).tdiv 100) = ((x / 100 : Nat) : Int) from rfl]
  exact Int.bmod_eq_of_le (by omega) (by omega)
theorem ng_rem {x : Nat} (hx : x < 2 ^ 31) : -(nI (x / 100)) * 100 - -(nI x) = nI (x % 100) := by
  have h := pk_rem (a := x) (d := 100) hx (by decide) (by decide)
  rw [pk_div hx (by decide) (by decide)] at h
  rw [← h, Int32.neg_mul, Int32.sub_neg, Int32.add_comm, ← Int32.sub_eq_add_neg]
  rfl
theorem ng_ng {x : Nat} : -(-(nI x)) = nI x := Int32.neg_neg
theorem ng_0 {x : Nat} (h : x < 2 ^ 31) : 0 ≤ nI x := nI_pos' h
/-- the digits, put from the right -/
def dO (x : Nat) : Int32 := nI (48 + x % 10)
def dT (x : Nat) : Int32 := nI (48 + x / 10)
theorem dg_1 {t : Nat → Int32} {n x : Nat} (h : x < 10) : upd (sbD t n) n (dO x) = sbD (qPut t n (qDg x)) (n + (qDg x).length) := by
  rw [qDg_1 h, ← qPut_1]
  show _ = sbD (upd t n _) (n + 1)
  rw [← sbD_1]; rfl
theorem dg_2 {t : Nat → Int32} {n x : Nat} (h0 : 10 ≤ x) (h : x < 100) : upd (upd (sbD t n) (n + 1) (dO x)) n (dT x) = sbD (qPut t n (qDg x)) (n + (qDg x).length) := by
  have e : qDg x = [48 + x / 10] ++ [48 + x % 10] := by unfold qDg; rw [if_neg (by omega), if_pos h]; rfl
  rw [e, ← qPut_a]
  simp only [← qPut_1]
  show _ = sbD (upd (upd t n _) (n + 1) _) (n + 1 + 1)
  rw [← sbD_1, ← sbD_1, upd_cm (by omega)]; rfl
theorem dg_3 {t : Nat → Int32} {n x : Nat} (h0 : 100 ≤ x) (h : x < 1000) : upd (upd (upd (sbD t n) (n + 2) (dO (x % 100))) (n + 1) (dT (x % 100))) n (dO (x / 100)) = sbD (qPut t n (qDg x)) (n + (qDg x).length) := by
  have e : qDg x = ([48 + x / 100] ++ [48 + x / 10 % 10]) ++ [48 + x % 10] := by unfold qDg; rw [if_neg (by omega), if_neg (by omega), if_pos h]; rfl
  rw [e, ← qPut_a, ← qPut_a]
  simp only [← qPut_1]
  show _ = sbD (upd (upd (upd t n _) (n + 1) _) (n + 2) _) (n + 1 + 1 + 1)
  rw [← sbD_1, ← sbD_1, ← sbD_1]
  rw [upd_cm (j := n + 2) (k := n + 1) (by omega), upd_cm (j := n + 2) (k := n) (by omega), upd_cm (j := n + 1) (k := n) (by omega)]
  unfold dO dT
  rw [show x % 100 % 10 = x % 10 by omega, show x % 100 / 10 = x / 10 % 10 by omega, show x / 100 % 10 = x / 100 by omega]
theorem dg_4 {t : Nat → Int32} {n x : Nat} (h0 : 1000 ≤ x) (h : x < 10000) : upd (upd (upd (upd (sbD t n) (n + 3) (dO (x % 100))) (n + 2) (dT (x % 100))) (n + 1) (dO (x / 100))) n (dT (x / 100)) = sbD (qPut t n (qDg x)) (n + (qDg x).length) := by
  have e : qDg x = (([48 + x / 1000] ++ [48 + x / 100 % 10]) ++ [48 + x / 10 % 10]) ++ [48 + x % 10] := by unfold qDg; rw [if_neg (by omega), if_neg (by omega), if_neg (by omega)]; rfl
  rw [e, ← qPut_a, ← qPut_a, ← qPut_a]
  simp only [← qPut_1]
  show _ = sbD (upd (upd (upd (upd t n _) (n + 1) _) (n + 2) _) (n + 3) _) (n + 1 + 1 + 1 + 1)
  rw [← sbD_1, ← sbD_1, ← sbD_1, ← sbD_1]
  rw [upd_cm (j := n + 3) (k := n + 2) (by omega), upd_cm (j := n + 3) (k := n + 1) (by omega), upd_cm (j := n + 3) (k := n) (by omega), upd_cm (j := n + 2) (k := n + 1) (by omega), upd_cm (j := n + 2) (k := n) (by omega), upd_cm (j := n + 1) (k := n) (by omega)]
  unfold dO dT
  rw [show x % 100 % 10 = x % 10 by omega, show x % 100 / 10 = x / 10 % 10 by omega, show x / 100 / 10 = x / 1000 by omega]
theorem dg_l1 {x : Nat} (h : x < 10) : (qDg x).length = 1 := by rw [qDg_1 h]; rfl
theorem dg_l2 {x : Nat} (h0 : 10 ≤ x) (h : x < 100) : (qDg x).length = 2 := by unfold qDg; rw [if_neg (by omega), if_pos h]; rfl
theorem dg_l3 {x : Nat} (h0 : 100 ≤ x) (h : x < 1000) : (qDg x).length = 3 := by unfold qDg; rw [if_neg (by omega), if_neg (by omega), if_pos h]; rfl
theorem dg_l4 {x : Nat} (h0 : 1000 ≤ x) : (qDg x).length = 4 := by unfold qDg; rw [if_neg (by omega), if_neg (by omega), if_neg (by omega)]; rfl
section VCP
variable {p : Program} {l : Launch} {e : Env} {R : Room} {s : State} {m : MethodId} {args : Array Value} {below : List Frame} {meth : Method} {c : Code} {T : State} {locs : List Loc} {cells slots : Nat}
/-- a private method, called on an object of any class -/
theorem g_callVP0 (X : Stand p l e R s m args below meth c T locs cells slots) (hexec : p.tables.exec = Jvm.exec) {own : String} {index : Nat} {y : MethodName} {bytes : ByteArray} {maxL : Nat} {ret : Option FieldType}
    (hown : s.vm.findClass own = some m.cls) (hlink : (Cond.methodLink own index y).before args s = true) (hinst : (Cond.instanceMethod y).before args s = true) (hpriv : va_Nw (.privateMethod y) s)
    (hsame : (Cond.sameMethod y.cls y.cls y.name y.desc).before args s = true) (hcode : (Cond.code y bytes maxL ret).before args s = true) (hy : y.cls ≠ "java/lang/invoke/MethodHandle" ∧ y.cls ≠ "java/lang/invoke/VarHandle")
    {W9 : Nat} {Pre : Pt → Array Value → Prop} {Post : Pt → Array Value → Option Value → Pt → Prop} {PostX : Pt → Array Value → Addr → Pt → Prop} (hK : vx_Back l R p e below s args y 3 W9 Pre Post PostX)
    {b : Addr} {cellB : Cell} (hcell : T.heap[b]? = some cellB) (hobj : cellB.vm.isStatics = false)
    {g : JFrame} (hg : g.method = m) (hsize : g.locals.size = c.maxLocals) {argsL rest : List Value} (hlen : ∀ sig, parseMethodDescriptor y.desc = some sig → argsL.length = sig.parameters.length)
    (hstack : g.stack = argsL.reverse ++ .ref b :: rest) (hW : 2 * g.monitorRoom + (rest.map fun v => v.category).sum ≤ W9) (hdg : decode c.code g.pc = .ok (.invokevirtual index, 3))
    (hpre : ∀ vm₁, s.WarmedH vm₁ → Pre ⟨T.setVm vm₁, locs, cells, slots⟩ (Value.ref b :: argsL).toArray) :
    (∃ (v : Option Value) (vm₁ : Vm) (B : Pt), s.WarmedH vm₁ ∧ Stand p l e R s m args below meth c B.U B.locs B.cells B.slots ∧ Post ⟨T.setVm vm₁, locs, cells, slots⟩ (Value.ref b :: argsL).toArray v B ∧
      ∀ target, Steps p.tables e below (B.U.setTop { g with pc := g.pc + 3, stack := v.toList ++ rest }) target → Steps p.tables e below (T.setTop g) target) ∨
    (∃ (q : Addr) (vm₁ : Vm) (B : Pt), s.WarmedH vm₁ ∧ Stand p l e R s m args below meth c B.U B.locs B.cells B.slots ∧ PostX ⟨T.setVm vm₁, locs, cells, slots⟩ (Value.ref b :: argsL).toArray q B ∧
      Steps p.tables e below (T.setTop g) ((B.U.setTop { g with stack := rest }).pushFrame (.throwing q))) := by
  obtain ⟨mk, methM, hnamed, hmethM, hstM, habM⟩ := Cond.instanceMethod_spec hinst
  obtain ⟨methM', cM, hmethM', -, -, -, -, -, -, hsigM⟩ := Cond.code_spec hnamed hcode
  cases hmethM.symm.trans hmethM'
  obtain ⟨cn, ck, r1, hcn, hck, hni, hf, hn1⟩ := Cond.sameMethod_found hsame
  have hk1 : cn = mk.cls := Option.some.inj (hcn.symm.trans (findClass_of_methodNamed hnamed))
  subst hk1
  have hpv : (Cond.privateMethod y).before #[] s = true := hpriv
  have hselP : selectMethod e.platform s.vm cellB.cls mk = .method mk := selectMethod_private hmethM (Cond.privateMethod_at hpv mk methM hnamed hmethM)
  obtain ⟨vm₁, X₁, hstep₁⟩ := X.invokevirtual hexec hown hlink hnamed hmethM hstM hck hni hy (a := b) (cell := cellB) hcell
    (fun z h => by rw [h] at hobj; cases hobj) hselP hmethM habM hck hni (g := g) hg (argsL := argsL) (rest := rest) (hlen _ hsigM) hstack hdg
  rcases hK m meth c ⟨T.setVm vm₁, locs, cells, slots⟩ { g with stack := rest } (.invokevirtual index) mk (Value.ref b :: argsL).toArray X₁ hg hsize hdg hW (X₁.named hnamed) (hpre vm₁ X₁.warmed) with ⟨v, B, X', hpost, hsteps⟩ | ⟨q, B, X', hpost, hsteps⟩
  · exact Or.inl ⟨v, vm₁, B, X₁.warmed, X', hpost, fun target h => hstep₁ _ fun acts => by rw [doInvoke_state]; exact hsteps.trans h⟩
  · exact Or.inr ⟨q, vm₁, B, X₁.warmed, X', hpost, hstep₁ _ fun acts => by rw [doInvoke_state]; exact hsteps⟩
end VCP
section GZ
variable {K : gK} {p : Program} {e : Env} {s : State} {m : MethodId} {args : Array Value} {below : List Frame} {meth : Method} {c : Code} {R : Room} {nL : Nat} {post : gRes → AH → Prop} {h : AH} {b bs pc : Nat} {lv : List (Nat × Value)} {st : List Value} {cc : ByteArray} {own : String} {ret : Option FieldType}
theorem g_cloneB {index n a : Nat} {f : Nat → Int32} (F : gFix K p s m args meth c cc nL own ret) (hl0 : Cond.methodLink own index ⟨"[B", "clone", "()Ljava/lang/Object;"⟩ ∈ lw_all) (ha : h a = some (.inl (gT K 1, n, .inl f))) (ho : gOld K a = none) (hfit : ∀ i, i < n → fits .byte (.int (f i)) = true) (hfr : 1 ≤ R.frames) (hlo : (st.map fun v => v.category).sum + 14 ≤ R.locals) (hd : decode cc pc = .ok (.invokevirtual index, 3))
    (kk : ∀ (q : Nat) (h1 : AH), h q = none → gOld K q = none → h1 = gu h q (.inl (gT K 1, n, .inl f)) → G K p e s m args below meth c R nL post h1 b bs (pc + 3) lv (.ref q :: st)) : G K p e s m args below meth c R nL post h (b + 1) (bs + n) pc lv (.ref a :: st) := by
  intro H locs ls kc ks hH hS hl hb hbs
  obtain ⟨ws, q0, hP, hD, e0, hw⟩ := hH.look ha ho
  refine va_clone F.1 F.2.1 (by rw [F.2.2.1]; exact hl.1.symm) F.2.2.2.1 (F.w hl0) (F.w q850) (F.w q851) (F.w q852) (F.w q853) (F.nw q854 rfl) F.hK hP hD hS F.hA q0 1 e0 (gTys_at K (by decide)) (va_nm_byte (F.hK.2 1 _ (gTys_at K (by decide))).2) (fun i v hv => va_fit (F := fun j => .int (f j)) hfit i v hv) hfr hlo (by omega) (by show ks + n ≤ _; omega) hd (fun q H1 _ hP1 hD1 hS1 => ?_)
  obtain ⟨z1, z2, z3⟩ := gH.push (fun a e q => (F.2.2.2.2.2.2.2.2.1 a e q).1) hw hP1 hD1
  exact kk q _ z1 z2 rfl H1 locs ls _ _ z3 hS1 hl (by omega) (by show ks + n + bs ≤ _; omega)
theorem g_castB {index n a : Nat} {f : Nat → Int32} (F : gFix K p s m args meth c cc nL own ret) (hl0 : Cond.classLink own index "[B" ∈ lw_all) (ha : h a = some (.inl (gT K 1, n, .inl f))) (ho : gOld K a = none) (hd : decode cc pc = .ok (.checkcast index, 3)) (kk : G K p e s m args below meth c R nL post h b bs (pc + 3) lv (.ref a :: st)) : G K p e s m args below meth c R nL post h b bs pc lv (.ref a :: st) := by
  intro H locs ls kc ks hH hS hl hb hbs
  obtain ⟨ws, q0, hP, hD, e0, hw⟩ := hH.look ha ho
  exact va_castA F.1 F.2.1 F.2.2.2.1 (F.w hl0) hP q0 e0 (va_nm_byte (F.hK.2 1 _ (gTys_at K (by decide))).2) hd (kk H locs ls kc ks hH hS hl hb hbs)
theorem g_callVP {y : MethodName} {bytes : ByteArray} {r0 : Option FieldType} {maxL n index f lo mc ms ci N a : Nat} {C : String} {T0 : u_T} {fs As st0 : List Value} {postc : gRes → AH → Prop} (F : gFix K p s m args meth c cc nL own ret) (hd : decode cc pc = .ok (.invokevirtual index, 3)) (mi : gMi y (Cond.code y bytes maxL r0) maxL n) (hlk : Cond.methodLink own index y ∈ lw_all) (hin : Cond.instanceMethod y ∈ lw_all) (hpv : Cond.privateMethod y ∈ lw_tbl) (hsm : Cond.sameMethod y.cls y.cls y.name y.desc ∈ lw_all) (hC : gCl[ci]? = some (C, T0, N)) (ha : h a = some (.inr (ci, fs)))
    (ct : gCt K y (Cond.code y bytes maxL r0) f lo mc ms h (.ref a :: As) postc) (hst : st0 = As.reverse ++ .ref a :: st) (hn : As.length = n) (hW : (st.map fun v => v.category).sum ≤ 8) (hfr : f + 1 ≤ R.frames) (hlo : 8 + (maxL + 11) + lo ≤ R.locals)
    (kk : ∀ (v : Option Value) (h1 : AH), postc (.inl v) h1 → G K p e s m args below meth c R nL post h1 b bs (pc + 3) lv (v.toList ++ st)) (kx : ∀ (q : Nat) (h1 : AH), postc (.inr q) h1 → gOld K q = none → GX K p e s m args below meth c R nL post h1 b bs pc lv q) : G K p e s m args below meth c R nL post h (b + mc) (bs + ms) pc lv st0 := by
  intro H locs ls kc ks hH hS hl hb hbs T hT X
  have hK : vx_Back K.1 R p e below s args y 3 8 (gPreA K R mc ms h (.ref a :: As)) (gPostA K mc ms postc) (gPostX K mc ms postc) := mi.back F ct hfr hlo
  obtain ⟨cell, g1, g2, g3⟩ := grecv F hH hS hC ha
  refine g_fin (a := (Value.ref a :: As).toArray) hT hS hl hb hbs kk kx ?_
  have hpre : ∀ vm₁, s.WarmedH vm₁ → gPreA K R mc ms h (.ref a :: As) ⟨T.setVm vm₁, locs, kc, ks⟩ (Value.ref a :: As).toArray := fun vm₁ hW1 => ⟨by show kc + mc ≤ R.cells; omega, by show ks + ms ≤ R.slots; omega, F.pre hH hS hT hW1⟩
  have hlen := mi.len hn
  obtain ⟨-, h2, -, h4, -⟩ := mi
  exact g_callVP0 X F.1 F.2.2.2.1 (F.w hlk) (F.w hin) (F.nw hpv rfl) (F.w hsm) (F.w h2) h4 hK (by rw [hT]; exact g1) g2 (g := F0 m pc ls st0) rfl (by rw [F.2.2.1]; exact hl.1) (argsL := As) (rest := st) hlen hst (by show 2 * (F0 m pc ls st0).monitorRoom + _ ≤ 8; have h0 : (F0 m pc ls st0).monitorRoom = 0 := rfl; omega) (by rw [F.2.1]; exact hd) hpre
end GZ
/-- answers nothing; a new thing, which a now names -/
def nwV (K : gK) (h : AH) (E : va_E) (a : Nat) (E2 : Nat → va_E) : Option Value → AH → Prop := fun v h' => v = none ∧ ∃ q, h q = none ∧ gOld K q = none ∧ h' = gu (gu h q E) a (E2 q)
/-- the text-maker at a: its C bytes at d, n signs t -/
def sbX (K : gK) (h : AH) (a d C : Nat) (t : Nat → Int32) (n : Nat) : Prop := h a = some (.inr (6, [.ref d, .int 0, .int 0, .int (nI n)])) ∧ gOld K a = none ∧ gOld K d = none ∧ h d = some (.inl (gT K 1, C, .inl (sbD t n))) ∧ n ≤ C ∧ C ≤ 16 + 2 * n ∧ sbC t n
def sbO (K : gK) (h : AH) (a d : Nat) (t : Nat → Int32) (n : Nat) : Prop := ∃ C, sbX K h a d C t n
/-- only the text-maker at a (its bytes at d, now at d2) is changed -/
def sbF (h h1 : AH) (a d d2 : Nat) : Prop := (d2 = d ∨ h d2 = none) ∧ ∀ x e, h x = some e → x ≠ a → x ≠ d → h1 x = some e
theorem sbF.rf {h : AH} {a d : Nat} : sbF h h a d d := ⟨.inl rfl, fun _ _ q _ _ => q⟩
theorem sbF.wd {h h1 h2 : AH} {a d d2 : Nat} {E : va_E} (f : sbF h h1 a d d2) (e1 : h2 = gu h1 d2 E) : sbF h h2 a d d2 := ⟨f.1, fun x e q n1 n2 => gu_t e1 (f.2 x e q n1 n2) (by
  rintro rfl
  rcases f.1 with z | z
  · exact n2 z
  · rw [z] at q; cases q)⟩
theorem sbF.wa {h h1 h2 : AH} {a d d2 : Nat} {E : va_E} (f : sbF h h1 a d d2) (e1 : h2 = gu h1 a E) : sbF h h2 a d d2 := ⟨f.1, fun x e q n1 n2 => gu_t e1 (f.2 x e q n1 n2) n1⟩
theorem sbF.tr {h h1 h2 : AH} {a d d1 d2 : Nat} {E : va_E} (f : sbF h h1 a d d1) (g : sbF h1 h2 a d1 d2) (h1a : h1 a = some E) : sbF h h2 a d d2 := by
  refine ⟨?_, fun x e q n1 n2 => g.2 x e (f.2 x e q n1 n2) n1 (by
    rintro rfl
    rcases f.1 with z | z
    · exact n2 z
    · rw [z] at q; cases q)⟩
  rcases g.1 with z | z
  · rw [z]; exact f.1
  · by_cases w : d2 = d
    · exact .inl w
    · right
      cases y : h d2 with
      | none => rfl
      | some e9 =>
        have na : d2 ≠ a := by rintro rfl; rw [h1a] at z; cases z
        rw [f.2 _ _ y na w] at z; cases z
theorem sbF.E {h0 h h1 : AH} {a d d2 : Nat} (f : sbF h h1 a d d2) (hE : gE h0 h) (ha : h0 a = none) (hd : h0 d = none) : gE h0 h1 := fun x e q => f.2 x e (hE x e q) (by rintro rfl; rw [ha] at q; cases q) (by rintro rfl; rw [hd] at q; cases q)
theorem sbF.nw {K : gK} {h0 h h1 : AH} {a d d2 : Nat} (f : sbF h h1 a d d2) (hE : gE h0 h) (hd : h0 d = none) : h0 d2 = none := by
  rcases f.1 with z | z
  · rw [z]; exact hd
  · exact hE.no z
theorem sbX.up {K : gK} {h h1 : AH} {a d C n : Nat} {t : Nat → Int32} (f : gE h h1) (x : sbX K h a d C t n) : sbX K h1 a d C t n := ⟨f _ _ x.1, x.2.1, x.2.2.1, f _ _ x.2.2.2.1, x.2.2.2.2⟩
theorem sbO.up {K : gK} {h h1 : AH} {a d n : Nat} {t : Nat → Int32} (f : gE h h1) (x : sbO K h a d t n) : sbO K h1 a d t n := by
  obtain ⟨C, x⟩ := x
  exact ⟨C, x.up f⟩
theorem sbO.e {K : gK} {h : AH} {a d n n' : Nat} {t t' : Nat → Int32} (x : sbO K h a d t n) (hn : n' = n) (ht : ∀ i, i < n → t i = t' i) : sbO K h a d t' n' := by
  subst hn
  obtain ⟨C, x1, x2, x3, x4, x5, x6, x7⟩ := x
  exact ⟨C, x1, x2, x3, by rw [← sbD_e ht]; exact x4, x5, x6, fun i hi => by rw [← ht i hi]; exact x7 i hi⟩
/-- the room for m signs is there -/
def sbR (K : gK) (h : AH) (a d m : Nat) (t : Nat → Int32) (n : Nat) : AH → Prop := fun h' => ∃ d' C', h' a = some (.inr (6, [.ref d', .int 0, .int 0, .int (nI n)])) ∧ gOld K d' = none ∧ h' d' = some (.inl (gT K 1, C', .inl (sbD t n))) ∧ m ≤ C' ∧ C' ≤ 16 + 2 * m ∧ sbF h h' a d d'
/-- the tables of digits -/
def gKD (K : gK) : Prop := gOld K (gAd K 201) = some (.inl (gT K 1, 100, .inl dO)) ∧ gOld K (gAd K 202) = some (.inl (gT K 1, 100, .inl dT))
theorem sShl {x : Int32} : x <<< ((0 : Int32) &&& 31) = x := by
  rw [show ((0 : Int32) &&& 31) = 0 from rfl]; simp
theorem nar_b {k : Nat} (h : k < 128) : vp_nar .byte (nI k) = nI k := by
  have : ∀ k, k < 128 → vp_nar .byte (nI k) = nI k := by decide +kernel
  exact this k h
theorem fit_b {k : Nat} (h : k < 128) : fits .byte (.int (nI k)) = true := by
  have : ∀ k, k < 128 → fits .byte (.int (nI k)) = true := by decide +kernel
  exact this k h
theorem sbD_f {t : Nat → Int32} {n : Nat} (h : sbC t n) (i : Nat) : fits .byte (.int (sbD t n i)) = true := by
  unfold sbD
  by_cases q : i < n
  · rw [if_pos q]; obtain ⟨k, hk, e⟩ := h i q; rw [e]; exact fit_b hk
  · rw [if_neg q]; rfl
theorem i2b_k {k : Nat} (h : k < 128) : (nI k).toInt8.toInt32 = nI k := by
  have : ∀ k, k < 128 → (nI k).toInt8.toInt32 = nI k := by decide +kernel
  exact this k h
theorem nar_dO {x : Nat} (h : x < 100) : vp_nar .byte (dO x) = dO x := nar_b (by omega)
theorem nar_dT {x : Nat} (h : x < 100) : vp_nar .byte (dT x) = dT x := nar_b (by omega)
/-- a String: n signs t -/
def strO (h : AH) (K : gK) (q : Nat) (t : Nat → Int32) (n : Nat) : Prop := ∃ (b : Nat) (hv zv : Int32) (f : Nat → Int32), h q = some (.inr (7, [.ref b, .int 0, .int hv, .int zv])) ∧ h b = some (.inl (gT K 1, n, .inl f)) ∧ (∀ i, i < n → f i = t i) ∧ sbC t n
theorem strO.up {K : gK} {h h1 : AH} {q n : Nat} {t : Nat → Int32} (f : gE h h1) (x : strO h K q t n) : strO h1 K q t n := by
  obtain ⟨b, hv, zv, g, x1, x2, x3⟩ := x
  exact ⟨b, hv, zv, g, f _ _ x1, f _ _ x2, x3⟩
