/-! contracts of methods that throw -/
def xSa {σ : Type} (ω : xWd σ) : Prop := ∀ X Y : σ, (xWf ω X).map (·.1) = (xWf ω Y).map (·.1)
theorem xSa.at {σ : Type} {ω : xWd σ} (h : xSa ω) {X : σ} (Y : σ) {k q : Nat} {e : va_E} (hk : (xWf ω X)[k]? = some (q, e)) : ∃ e', (xWf ω Y)[k]? = some (q, e') := by
  have h1 := congrArg (fun l : List Nat => l[k]?) (h X Y)
  simp only [List.getElem?_map, hk, Option.map_some] at h1
  cases hy : (xWf ω Y)[k]? with
  | none => rw [hy] at h1; cases h1
  | some z => rw [hy] at h1; exact ⟨z.2, by rw [show q = z.1 from Option.some.inj h1]⟩
theorem xvm_cell (cA : ClassId) (a : vp_A) : (vp_cell cA a).vm = .none := by
  obtain ⟨n, f⟩ := a
  rcases f with f | f | f | f | f <;> rfl
theorem xvm_at {D : va_G} {cl : List vw_C} {q : Nat × va_E} {H : Heap} (h : va_at D cl q H) : ∃ cell : Cell, H[q.1]? = some cell ∧ cell.vm = .none := by
  obtain ⟨a, e⟩ := q
  cases e with
  | inl x => exact ⟨_, h, xvm_cell _ _⟩
  | inr o => obtain ⟨r, -, cell, h1, -, h3, -⟩ := h; exact ⟨cell, h1, h3⟩
/-- no cell of statics is among the world's -/
def xNs {σ : Type} (ω : xWd σ) (s : State) : Prop := ∀ (a : Nat) (cell : Cell), s.heap[a]? = some cell → cell.vm.isStatics = true → ¬ xA ω s.heap.size a
theorem xns {σ : Type} {ω : xWd σ} {X : σ} {s : State} (hP : xH ω X s.heap) (hsa : xSa ω) : xNs ω s := by
  intro a cell hc hs hA
  have hlt : a < s.heap.size := (Array.getElem?_eq_some_iff.mp hc).1
  rcases hA with ⟨Y, k, e, hk⟩ | hA
  · obtain ⟨e', hk'⟩ := hsa.at X hk
    obtain ⟨cell', h1, h2⟩ := xvm_at (hP k _ hk')
    cases hc.symm.trans h1
    rw [h2] at hs; cases hs
  · omega
/-- a walk that may throw: its start, the launch without traces, no handler of its own -/
def OKt {σ : Type} (κ : Cx) (ω : xWd σ) (_ : σ) : Prop := xNs ω (kS κ) ∧ TH (kS κ) ∧ (kE κ).platform.stackTraces = false ∧ xSa ω
/-- the statics are as they were -/
theorem OKt.st {σ : Type} {κ : Cx} {ω : xWd σ} {X : σ} (t : OKt κ ω X) {H : Heap} {locs : List Loc} (hS : va_S (xA ω (kS κ).heap.size) (kS κ).heap H locs) : ∀ (a : Nat) (cell : Cell), (kS κ).heap[a]? = some cell → cell.vm.isStatics = true → H[a]? = some cell := by
  intro a cell hc hs
  have hlt : a < (kS κ).heap.size := (Array.getElem?_eq_some_iff.mp hc).1
  rw [hS.2.1 a hlt (t.1 a cell hc hs)]
  exact hc
theorem OKt.th {σ : Type} {κ : Cx} {ω : xWd σ} {X : σ} (t : OKt κ ω X) {H : Heap} {locs : List Loc} (hS : va_S (xA ω (kS κ).heap.size) (kS κ).heap H locs) {U : State} (hU : U.heap = H) (hW : (kS κ).WarmedH U.vm) : TH U :=
  t.2.1.moved hW (fun a cell h1 h2 => by rw [hU]; exact t.st hS a cell h1 h2)
def xQT {σ : Type} (ω : xWd σ) (sz : Nat) (X : σ) (T : Nat → Prop) (st : State) (o : Outcome) (t : State) : Prop :=
  (∃ (a kd : Nat) (cell : Cell), o = .threw a ∧ T kd ∧ kd < 3 ∧ xH ω X t.heap ∧ sz ≤ a ∧ t.heap[a]? = some cell ∧ t.vm.findClass (eN kd) = some cell.cls ∧ cell.vm = .none) ∧ va_F (xA ω sz) st t
def xFr {σ : Type} (ω : xWd σ) (sz : Nat) (rm : Room) (st t : State) : Prop := ∃ L : List Loc, (st.WarmedH t.vm ∧ st.sameButNew ({ t with vm := st.vm } : State) L rm.cells rm.slots) ∧ ∀ q ∈ L, xA ω sz q.base
def CTT {σ : Type} (l : Launch) (ω : xWd σ) (y : MethodName) (cw : Cond) (rm : Room) (av : List Value) (X : σ) (T : Nat → Prop) : Prop :=
  ∀ sz : Nat, MetFree l y (headSpec (cw :: xw_ok) rm) (fun a U => xPc ω sz av X a U ∧ TH U) (fun _ _ _ _ _ => True) (fun _ st o t => xQT ω sz X T st o t ∧ xFr ω sz rm st t)
abbrev xMT {σ : Type} (κ : Cx) (ω : xWd σ) (rm : Room) (X : σ) (T : Nat → Prop) : State → Prop := fun t =>
  ∃ o, t.status = .running ∧ Ended t (kB κ) o ∧ xQT ω (kS κ).heap.size X T (kS κ) o t ∧ xFr ω (kS κ).heap.size rm (kS κ) t
theorem CTT.of {σ : Type} {l : Launch} {ω : xWd σ} {y : MethodName} {cc : ByteArray} {nL : Nat} {ret : Option FieldType} {rm : Room} {av : List Value} {X : σ} {T : Nat → Prop}
    (hy : plainName y.cls = true) (hn : (lg_sl av).length ≤ nL) (hD : xD ω) (hsa : xSa ω) (htr : ∀ e : Env, l.admits e → e.platform.stackTraces = false)
    (body : ∀ κ : Cx, kL κ = l → kA κ = av.toArray → OKc κ ω nL cc y.cls ret rm → OKt κ ω X → (kC κ).exceptionTable.isEmpty = true → GW κ ω nL (0, 0) (xMT κ ω rm X T) X 0 (lv_args 0 av) []) : CTT l ω y (.code y cc nL ret) rm av X T := by
  intro sz
  refine MetFree.of_bodyS (code := cc) (maxLocals := nL) (ret := ret) hy ?_ ?_
  · intro args s m h hn
    obtain ⟨meth, c, h1, h2, h3, h4, h5, h6, -, -⟩ := Cond.code_spec hn (atoms_spec (ws := Cond.code y cc nL ret :: xw_ok) h _ List.mem_cons_self)
    exact ⟨meth, c, h1, h2, h3, h4, h5, h6⟩
  · intro p e s m args below meth c s₁ B hml hv _
    obtain ⟨⟨rfl, hsz, hP, hK⟩, hth⟩ := hv
    have hts := atoms_spec (ws := Cond.code y cc nL ret :: xw_ok) B.pre
    have hown : s.vm.findClass y.cls = some m.cls := findClass_of_methodNamed B.named
    have hnh := B.noHandlers (hts _ List.mem_cons_self)
    subst hsz
    have hh0 : s₁.heap = s.heap := by rw [B.state]; rfl
    have hl := lv_entry av (n := nL) hn
    have key := body (p, l, e, rm, s, m, av.toArray, below, meth, c) rfl rfl ⟨B.exec, B.bytes, hml, hown, fun w hw => hts w (List.mem_cons_of_mem _ hw), hK, hD, B.returns, B.notSynchronized, rfl⟩ ⟨xns hP hsa, hth, htr e B.admits, hsa⟩ hnh s.heap []
    have key2 := key _ hP va_S.rf hl s₁ hh0 (Stand.of_body B)
    rw [← lg_entry_eq] at key2
    obtain ⟨t, a1, o, b1, b2, b3, b4⟩ := key2
    exact ⟨t, o, a1, b1, b2, b3, b4⟩
/-- what a throw finds in the tables -/
def xnames : List String := ["java/lang/RuntimeException", "java/lang/Exception"]
theorem gw_throw {σ : Type} {κ : Cx} {ω : xWd σ} {nL : Nat} {k : Nat × Nat} {X X0 : σ} {pc : Nat} {lv : List (Nat × Value)} {st : List Value} {cc : ByteArray} {own : String} {ret : Option FieldType} {rm : Room} {T : Nat → Prop} {i1 i2 kd : Nat}
    (o : OKc κ ω nL cc own ret rm) (t : OKt κ ω X0) (hnh : (kC κ).exceptionTable.isEmpty = true) (hkd : kd < 3) (hT : T kd) (hfit : Bundle.fit (eN kd) = true)
    (hcl : Cond.classLink own i1 (eN kd) ∈ xw_ok) (hins : Cond.instantiable (eN kd) 6 ∈ xw_ok) (hini : Cond.initialized (eN kd) ∈ xw_ok) (hat : ∀ w ∈ Bundle.ownAtoms0 own i2 (eN kd) xnames, w ∈ xw_ok ∨ w ∈ th_ws)
    (hd0 : decode cc pc = .ok (.new i1, 3)) (hd1 : decode cc (pc + 3) = .ok (.dup, 1)) (hd2 : decode cc (pc + 3 + 1) = .ok (.invokespecial i2, 3)) (hd3 : decode cc (pc + 3 + 1 + 3) = .ok (.athrow, 1))
    (hrm : 6 ≤ rm.frames ∧ 100 ≤ rm.locals ∧ k.1 + 1 ≤ rm.cells ∧ k.2 + 6 ≤ rm.slots) (hst : (st.map fun v => v.category).sum ≤ 8) : GW κ ω nL k (xMT κ ω rm X T) X pc lv st := by
  intro H locs ls hP hS hl T0 hT0 XS
  obtain ⟨hx, hb, hml, hown, hts, hK, hD, hr, hlocks, hR⟩ := o
  have X1 := stand_rebase (R' := { frames := rm.frames, locals := rm.locals, cells := 1, slots := 6 }) XS (by rw [hR]; exact Nat.le_refl _) (by rw [hR]; exact Nat.le_refl _) (by rw [hR]; exact hrm.2.2.1) (by rw [hR]; exact hrm.2.2.2)
  have hW0 : (kS κ).WarmedH (xRb T0 (kM κ) (kA κ) (kB κ)).vm := XS.warmed
  have hts' : ∀ w ∈ xw_ok, w.before (kA κ) (xRb T0 (kM κ) (kA κ) (kB κ)) = true := fun w hw => pay_in hts (fun w h => ⟨h, xw_good h⟩) w hw _ _ hW0
  have hth : TH (xRb T0 (kM κ) (kA κ) (kB κ)) := t.th hS (U := xRb T0 (kM κ) (kA κ) (kB κ)) hT0 hW0
  have hown' : (xRb T0 (kM κ) (kA κ) (kB κ)).vm.findClass own = some (kM κ).cls := by rw [← hown]; exact hW0.alike.findClass own _
  have hat' : ∀ w ∈ Bundle.ownAtoms0 own i2 (eN kd) xnames, w.before (kA κ) (xRb T0 (kM κ) (kA κ) (kB κ)) = true := by
    intro w hw
    rcases hat w hw with h | h
    · exact hts' w h
    · have h2 := hth w h
      simp only [th_ws, List.mem_cons, List.not_mem_nil, or_false] at h
      rcases h with rfl | rfl | rfl | rfl | rfl | rfl | rfl | rfl | rfl | rfl <;> exact h2
  have key : W (kP κ) (kL κ) (kE κ) { frames := rm.frames, locals := rm.locals, cells := 1, slots := 6 } (xRb T0 (kM κ) (kA κ) (kB κ)) (kM κ) (kA κ) (kB κ) (kMe κ) (kC κ) H [] 0 0
      (fun U => U.status = .running ∧ Ended U (kB κ) (.threw H.size) ∧ (xRb T0 (kM κ) (kA κ) (kB κ)).WarmedH U.vm ∧ (xRb T0 (kM κ) (kA κ) (kB κ)).sameButNew ({ U with vm := (xRb T0 (kM κ) (kA κ) (kB κ)).vm } : State) [] 1 6 ∧
        ∃ ce : Cell, U.heap[H.size]? = some ce ∧ (xRb T0 (kM κ) (kA κ) (kB κ)).vm.findClass (eN kd) = some ce.cls ∧ ce.vm = .none) (F0 (kM κ) pc ls st) := by
    refine W.newc hx hb hown' (hts' _ hcl) (hts' _ hins) (hts' _ hini) rfl hd0 (Nat.le_refl _) (Nat.le_refl _) (fun cC kC h1 h2 h3 h4 => ?_)
    refine lv_dup hx hb hd1 rfl ?_
    intro T2 hT2 X2
    obtain ⟨U, hsteps, hrun, hend, hW, hsame, ce, hce, K⟩ := X2.ctorThrow0 hx t.2.2.1 (own := own) (cls := eN kd) (names := xnames) (ic := i2) hown' hfit (by decide) hat' (fun x hx => by cases hx)
      (a := H.size) h1 h2 (by rw [hT2]; simp) (by show T0.heap.size ≤ H.size; rw [hT0]; exact Nat.le_refl _) (g := F0 (kM κ) (pc + 3 + 1) ls (.ref H.size :: .ref H.size :: st)) rfl (hl.1.trans hml.symm) rfl rfl (rest := st) rfl (by rw [hb]; exact hd2) (by rw [hb]; exact hd3)
      (fun x hx => by have h9 := hnh; simp [Array.isEmpty_iff] at h9; rw [h9] at hx; cases hx)
      (by show 2 + 3 < rm.frames; omega) (by
        show 2 * (F0 (kM κ) (pc + 3 + 1) ls (.ref H.size :: .ref H.size :: st)).monitorRoom + _ + _ ≤ rm.locals
        have h8 := lv_room (m := kM κ) (pc := pc + 3 + 1) (ls := ls) (rest := .ref H.size :: .ref H.size :: st) hst
        simp only [List.map_cons, List.sum_cons, Value.category, xnames, List.length_cons, List.length_nil] at h8 ⊢
        omega) hlocks
    exact ⟨U, hsteps, hrun, hend, hW, hsame, ce, hce, K.cls, K.vm⟩
  obtain ⟨U, hsteps, hrun, hend, hW, hsame, ce, hce, hcls, hvm⟩ := key T0 hT0 X1
  have heq : ∀ q : Nat, q < H.size → U.heap[q]? = H[q]? := by
    intro q hq
    obtain ⟨c', h1, h2, h3, h4⟩ := hsame.2.2.2.2.2 q H[q] (by show T0.heap[q]? = _; rw [hT0]; exact Array.getElem?_eq_getElem hq)
    have h5 : c'.slots = H[q].slots := by
      apply Array.ext_getElem?
      intro i
      exact h4 i (by simp)
    rw [h1, Array.getElem?_eq_getElem hq, h2, h5]
  have hszU : H.size ≤ U.heap.size := by have := hsame.2.1; rw [← hT0]; exact this
  refine ⟨U, hsteps, .threw H.size, hrun, hend, ⟨⟨H.size, kd, ce, rfl, hT, hkd, ?_, hS.1, hce, by rw [hW.alike.findClass]; exact hcls, hvm⟩, ?_⟩, locs, ⟨State.WarmedH.trans hW0 hW, ?_⟩, hS.2.2⟩
  · exact va_P.kept hP (fun k q hk => heq q.1 ((hP k q hk).lt))
  · exact ⟨Nat.le_trans hS.1 hszU, fun q hq hA => (heq q (Nat.lt_of_lt_of_le hq hS.1)).trans (hS.2.1 q hq hA)⟩
  · have hB : T0.sameButNew ({ U with vm := T0.vm } : State) [] 1 6 := by
      refine ⟨?_, hsame.2⟩
      have h1 := hsame.1
      rw [State.setFrames_setFrames] at h1
      exact h1
    have h2 := XS.same.trans (hB.setVm (kS κ).vm)
    refine h2.weaken (fun y hy _ => by rw [List.append_nil] at hy; exact hy) hrm.2.2.1 hrm.2.2.2
