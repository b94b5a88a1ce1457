/-! calls of methods that throw -/
section callT
variable {σ : Type} {κ : Cx} {ω : xWd σ} {nL : Nat} {k : Nat × Nat} {Q : State → Prop} {X X0 : σ} {pc : Nat} {lv : List (Nat × Value)} {st st0 : List Value} {cc : ByteArray} {own : String} {ret : Option FieldType} {rm : Room}
/-- behind the call's own step the callee runs and throws: the walk stands at the call, the exception is on its way -/
theorem xthrown {p : Program} {l : Launch} {e : Env} {R : Room} {s : State} {m : MethodId} {args : Array Value} {below : List Frame} {meth : Method} {c : Code} {U : State} {locs : List Loc} {cells slots : Nat}
    (XS : Stand p l e R s m args below meth c U locs cells slots) {y : MethodName} {cw : Cond} {rmY : Room} {av : List Value} {T : Nat → Prop} (ct : CTT l ω y cw rmY av X T)
    {g : JFrame} {ig : Instr} {mk : MethodId} {bytes : ByteArray} {maxL : Nat} {retY : Option FieldType} (hg : g.method = m) (hsize : g.locals.size = c.maxLocals) (hdg : decode c.code g.pc = .ok (ig, 3)) (hW : 2 * g.monitorRoom + (g.stack.map fun v => v.category).sum ≤ 8)
    (hn : U.methodNamed? y = some mk) (hcw : cw = .code y bytes maxL retY) (hts : ∀ w ∈ cw :: xw_ok, w.before av.toArray U = true) (hini : (Cond.initialized y.cls).before av.toArray U = true)
    (hro : rmY.frames + 1 ≤ R.frames ∧ 8 + (maxL + 11) + rmY.locals ≤ R.locals ∧ cells + rmY.cells ≤ R.cells ∧ slots + rmY.slots ≤ R.slots)
    (hP : xH ω X U.heap) (hK : xK ω U) (hth : TH U) :
    ∃ (x kd : Nat) (cell : Cell) (T' : State) (L : List Loc), Steps p.tables e below (doInvoke e (U.setTop g) [] mk av.toArray).1 ((T'.setTop g).pushFrame (.throwing x)) ∧ Stand p l e R s m args below meth c T' (locs ++ L) (cells + rmY.cells) (slots + rmY.slots) ∧
      (∀ q ∈ L, xA ω U.heap.size q.base) ∧ T kd ∧ kd < 3 ∧ xH ω X T'.heap ∧ U.heap.size ≤ x ∧ T'.heap[x]? = some cell ∧ T'.vm.findClass (eN kd) = some cell.cls ∧ cell.vm = .none ∧ va_F (xA ω U.heap.size) U T' := by
  subst hcw
  obtain ⟨methY, cY, hmY, hcY, -, hlY, -, -, -, -⟩ := Cond.code_spec hn (hts _ List.mem_cons_self)
  obtain ⟨kY, hkY, -⟩ := className_of_methodNamed hn
  have hinitY : kY.init = .initialized := Cond.initialized_spec (findClass_of_methodNamed hn) hkY hini
  have h : At U g.method c below := by rw [hg]; exact XS.here
  have happ : (headSpec (Cond.code y bytes maxL retY :: xw_ok) rmY).appliesLoose y e.platform (U.calling g mk av.toArray) = true :=
    Spec.appliesLoose_calling (g := g) h hdg hn hkY hinitY (XS.room_calling (g := g) (R' := rmY) hsize hmY hcY hro.1 (by rw [hlY]; omega) hro.2.2.1 hro.2.2.2) (atoms_intro fun w hw => hts w hw)
  obtain ⟨mid, hmid⟩ := h.above
  have hfr : (U.setTop g).frames = (.java g :: mid) ++ below := by rw [State.frames_setTop' g h.top, hmid]; rfl
  have hpre : xPc ω U.heap.size av X av.toArray (U.calling g mk av.toArray) := xPc.blind _ _ _ _ ⟨rfl, rfl, hP, hK⟩
  have hth2 : TH (U.calling g mk av.toArray) := hth.moved (State.WarmedH.refl U) (fun _ _ h _ => h)
  obtain ⟨oc, s₂, hsteps, -, hend, ⟨⟨x, kd, cell, rfl, hT, hkd, hPx, hx, hcell, hcls, hvm⟩, hF⟩, L, ⟨hWm, hsame⟩, hL⟩ := Steps.callFree (ct U.heap.size) p XS.admits XS.cas XS.clock (acts := []) hfr happ ⟨hpre, hth2⟩ trivial
  rw [State.frames_setTop' g h.top, XS.tail] at hend
  obtain ⟨T', X', hWT, hsT, rfl⟩ := XS.outOfThrown hg (mk := mk) (a := av.toArray) hend hWm hsame
  have eh : ((T'.setTop g).pushFrame (.throwing x)).heap = T'.heap := Stand.throwing_heap T' g x
  have ev : ((T'.setTop g).pushFrame (.throwing x)).vm = T'.vm := Stand.throwing_vm T' g x
  rw [eh] at hPx hcell
  rw [ev] at hcls
  refine ⟨x, kd, cell, T', L, hsteps, X', hL, hT, hkd, hPx, hx, hcell, hcls, hvm, ?_⟩
  have hF1 := hF.1
  have hF2 := hF.2
  rw [eh] at hF1 hF2
  exact ⟨hF1, hF2⟩
theorem xS_app {A : Nat → Prop} {ω : xWd σ} {s : State} {H : Heap} {locs L : List Loc} {U T' : State} (hS : va_S (xA ω s.heap.size) s.heap H locs) (hU : U.heap = H) (hL : ∀ q ∈ L, xA ω H.size q.base) (hF : va_F (xA ω H.size) U T') : va_S (xA ω s.heap.size) s.heap T'.heap (locs ++ L) := by
  have hAA : ∀ q, xA ω H.size q → xA ω s.heap.size q := fun q h => h.elim Or.inl (fun h2 => Or.inr (Nat.le_trans hS.1 h2))
  refine ⟨Nat.le_trans hS.1 (by have := hF.1; rw [hU] at this; exact this), fun q hq hA => ?_, fun q hq => ?_⟩
  · have h1 := hF.2 q (by rw [hU]; exact Nat.lt_of_lt_of_le hq hS.1) (fun h => hA (hAA q h))
    rw [h1, hU]; exact hS.2.1 q hq hA
  · rcases List.mem_append.mp hq with h | h
    · exact hS.2.2 q h
    · exact hAA _ (hL q h)
/-- the exception leaves the method -/
theorem xleave (o : OKc κ ω nL cc own ret rm) (hnh : (kC κ).exceptionTable.isEmpty = true) {T : Nat → Prop} {H : Heap} {locs : List Loc} {g : JFrame} {x kd : Nat} {cell : Cell} {T' : State} {c1 s1 : Nat} (hg : g.method = kM κ) (hl1 : g.locked = none) (hl2 : g.entered = [])
    (X' : Stand (kP κ) (kL κ) (kE κ) (kR κ) (kS κ) (kM κ) (kA κ) (kB κ) (kMe κ) (kC κ) T' locs c1 s1) (hc1 : c1 ≤ rm.cells) (hs1 : s1 ≤ rm.slots) (hS : va_S (xA ω (kS κ).heap.size) (kS κ).heap T'.heap locs) (hT : T kd) (hkd : kd < 3) (hP : xH ω X T'.heap) (hx : (kS κ).heap.size ≤ x) (hcell : T'.heap[x]? = some cell) (hcls : T'.vm.findClass (eN kd) = some cell.cls) (hvm : cell.vm = .none) :
    ∃ t, Steps (kP κ).tables (kE κ) (kB κ) ((T'.setTop g).pushFrame (.throwing x)) t ∧ xMT κ ω rm X T t := by
  obtain ⟨h1, h2, h3, h4, h5⟩ := X'.leaveThrown x (g := g) hg hl1 hl2 (fun y hy => by have h9 := hnh; simp [Array.isEmpty_iff] at h9; rw [h9] at hy; cases hy) o.2.2.2.2.2.2.2.2.1
  exact ⟨_, h1, .threw x, h2, h3, ⟨⟨x, kd, cell, rfl, hT, hkd, hP, hx, hcell, hcls, hvm⟩, hS.1, hS.2.1⟩, locs, ⟨h4, h5.weaken (fun _ h _ => h) hc1 hs1⟩, hS.2.2⟩
theorem xstat {y : MethodName} {bytes : ByteArray} {maxL : Nat} {retY : Option FieldType} {n : Nat} {args : Array Value} {s U : State} (hts : ∀ w ∈ xw_ok, w.before args s = true) (mi : xMi y (.code y bytes maxL retY) n) (hW : s.WarmedH U.vm) (a : Array Value) : (∀ w ∈ Cond.code y bytes maxL retY :: xw_ok, w.before a U = true) ∧ (Cond.initialized y.cls).before a U = true :=
  ⟨fun w hw => pay_in hts (xw_in mi.1) w hw a U hW, pay_in hts (fun w h => ⟨h, xw_good h⟩) _ mi.2.1 a U hW⟩
/-- an instance method is called and throws; nothing catches it here -/
theorem gw_callTV {T : Nat → Prop} {y : MethodName} {bytes : ByteArray} {maxL idx n ci N : Nat} {retY : Option FieldType} {rmY : Room} {b : Nat} {As : List Value} {C : String} {Tt : u_T} {fs : List Value} (o : OKc κ ω nL cc own ret rm) (t : OKt κ ω X0) (hnh : (kC κ).exceptionTable.isEmpty = true)
    (ct : CTT (kL κ) ω y (.code y bytes maxL retY) rmY (.ref b :: As) X T) (mi : xMi y (.code y bytes maxL retY) n) (hl1 : Cond.methodLink own idx y ∈ xw_ok) (hl2 : Cond.instanceMethod y ∈ xw_ok) (hl3 : Cond.selects C y y ∈ xw_ok)
    (q0 : Nat) (he : (xWf ω X)[q0]? = some (b, .inr (ci, fs))) (hc : classes[ci]? = some (C, Tt, N)) (hro : xRo rm k rmY maxL) (hs : st0 = As.reverse ++ .ref b :: st) (hn : As.length = n) (hst : (st.map fun v => v.category).sum ≤ 8) (hd : decode cc pc = .ok (.invokevirtual idx, 3)) : GW κ ω nL k (xMT κ ω rm X T) X pc lv st0 := by
  subst hs
  intro H locs ls hP hS hl T0 hT0 XS
  have o' := o
  obtain ⟨hx, hb, hml, hown, hts, hK, hD, hr, hlocks, hR⟩ := o
  obtain ⟨cellB, hcB, hoB, hclB⟩ := va_recv hK.1 hP hc he
  obtain ⟨mk, methM, hnamed, hmethM, hstM, habM⟩ := Cond.instanceMethod_spec (hts _ hl2)
  obtain ⟨methM', cM, hmethM', -, -, -, -, -, -, hsigM⟩ := Cond.code_spec hnamed (hts _ mi.1)
  cases hmethM.symm.trans hmethM'
  obtain ⟨c2, r2, m2, q1, q2, q3, q4, kP', hkP, hkPi⟩ := Cond.selects_spec (hts _ hl3)
  cases hclB.symm.trans q1
  cases (State.methodFound?_of_named hnamed ⟨mi.2.2.1, mi.2.2.2.1⟩).symm.trans q2
  cases hnamed.symm.trans q3
  have hselP : selectMethod (kE κ).platform (kS κ).vm cellB.cls mk = .method mk := by rw [Launch.admits_selectMethod XS.admits]; exact q4
  have hlen : As.length = methM.sig.parameters.length := by
    have h2 := mi.2.2.2.2
    rw [hsigM] at h2
    exact hn.trans (Option.some.inj h2).symm
  obtain ⟨vm₁, X₁, hstep₁⟩ := XS.invokevirtual hx hown (hts _ hl1) hnamed hmethM hstM hkP hkPi ⟨mi.2.2.1, mi.2.2.2.1⟩ (a := b) (cell := cellB) (by rw [hT0]; exact hcB)
    (fun z h => by rw [h] at hoB; cases hoB) hselP hmethM habM hkP hkPi (g := F0 (kM κ) pc ls (As.reverse ++ .ref b :: st)) rfl (argsL := As) (rest := st) hlen rfl (by rw [hb]; exact hd)
  have hst2 := xstat (U := T0.setVm vm₁) hts mi X₁.warmed (Value.ref b :: As).toArray
  obtain ⟨x, kd, cell, T', L, hsteps, X', hL, hT, hkd, hPx, hxx, hcell, hcls, hvm, hF⟩ := xthrown X₁ ct (g := { F0 (kM κ) pc ls (As.reverse ++ .ref b :: st) with stack := st }) (ig := .invokevirtual idx) (mk := mk) rfl (hl.1.trans hml.symm) (by rw [hb]; exact hd) (lv_room (rest := st) hst) (X₁.named hnamed) rfl hst2.1 hst2.2 (by rw [hR]; exact hro)
    (by show xH ω X T0.heap; rw [hT0]; exact hP) (hK.warm X₁.warmed) (t.th hS (U := T0.setVm vm₁) hT0 X₁.warmed)
  have hUh : (T0.setVm vm₁).heap = H := hT0
  rw [hUh] at hL hxx hF
  have hS2 : va_S (xA ω (kS κ).heap.size) (kS κ).heap T'.heap (locs ++ L) := xS_app (A := fun _ => True) hS hUh hL hF
  obtain ⟨t2, a1, a2⟩ := xleave o' hnh (T := T) (H := H) (g := { F0 (kM κ) pc ls (As.reverse ++ .ref b :: st) with stack := st }) rfl rfl rfl X' hro.2.2.1 hro.2.2.2 hS2 hT hkd hPx (Nat.le_trans hS.1 hxx) hcell hcls hvm
  exact ⟨t2, hstep₁ _ fun acts => by rw [doInvoke_state]; exact hsteps.trans a1, a2⟩
/-- a static method is called and throws; nothing catches it here -/
theorem gw_callTS {T : Nat → Prop} {y : MethodName} {bytes : ByteArray} {maxL idx n : Nat} {retY : Option FieldType} {rmY : Room} {As : List Value} (o : OKc κ ω nL cc own ret rm) (t : OKt κ ω X0) (hnh : (kC κ).exceptionTable.isEmpty = true)
    (ct : CTT (kL κ) ω y (.code y bytes maxL retY) rmY As X T) (mi : xMi y (.code y bytes maxL retY) n) (hl1 : Cond.methodLink own idx y ∈ xw_ok) (hl2 : Cond.static y ∈ xw_ok)
    (hro : xRo rm k rmY maxL) (hs : st0 = As.reverse ++ st) (hn : As.length = n) (hst : (st.map fun v => v.category).sum ≤ 8) (hd : decode cc pc = .ok (.invokestatic idx, 3)) : GW κ ω nL k (xMT κ ω rm X T) X pc lv st0 := by
  subst hs
  intro H locs ls hP hS hl T0 hT0 XS
  have o' := o
  obtain ⟨hx, hb, hml, hown, hts, hK, hD, hr, hlocks, hR⟩ := o
  obtain ⟨mk, hnamed⟩ := Cond.code_named (hts _ mi.1)
  obtain ⟨methM, cM, hmethM, -, -, -, -, -, -, hsigM⟩ := Cond.code_spec hnamed (hts _ mi.1)
  have hstatic : methM.isStatic = true := Cond.static_spec hnamed hmethM (hts _ hl2)
  obtain ⟨kP', hkP, -⟩ := className_of_methodNamed hnamed
  have hinitP : kP'.init = .initialized := Cond.initialized_spec (findClass_of_methodNamed hnamed) hkP (hts _ mi.2.1)
  have hlen : As.length = methM.sig.parameters.length := by
    have h2 := mi.2.2.2.2
    rw [hsigM] at h2
    exact hn.trans (Option.some.inj h2).symm
  obtain ⟨vm₁, X₁, hstep₁⟩ := XS.invokestatic hx hown (hts _ hl1) hnamed hmethM hstatic hkP hinitP ⟨mi.2.2.1, mi.2.2.2.1⟩ (g := F0 (kM κ) pc ls (As.reverse ++ st)) rfl (argsL := As) (rest := st) hlen rfl (by rw [hb]; exact hd)
  have hst2 := xstat (U := T0.setVm vm₁) hts mi X₁.warmed As.toArray
  obtain ⟨x, kd, cell, T', L, hsteps, X', hL, hT, hkd, hPx, hxx, hcell, hcls, hvm, hF⟩ := xthrown X₁ ct (g := { F0 (kM κ) pc ls (As.reverse ++ st) with stack := st }) (ig := .invokestatic idx) (mk := mk) rfl (hl.1.trans hml.symm) (by rw [hb]; exact hd) (lv_room (rest := st) hst) (X₁.named hnamed) rfl hst2.1 hst2.2 (by rw [hR]; exact hro)
    (by show xH ω X T0.heap; rw [hT0]; exact hP) (hK.warm X₁.warmed) (t.th hS (U := T0.setVm vm₁) hT0 X₁.warmed)
  have hUh : (T0.setVm vm₁).heap = H := hT0
  rw [hUh] at hL hxx hF
  have hS2 : va_S (xA ω (kS κ).heap.size) (kS κ).heap T'.heap (locs ++ L) := xS_app (A := fun _ => True) hS hUh hL hF
  obtain ⟨t2, a1, a2⟩ := xleave o' hnh (T := T) (H := H) (g := { F0 (kM κ) pc ls (As.reverse ++ st) with stack := st }) rfl rfl rfl X' hro.2.2.1 hro.2.2.2 hS2 hT hkd hPx (Nat.le_trans hS.1 hxx) hcell hcls hvm
  exact ⟨t2, hstep₁ _ fun acts => by rw [doInvoke_state]; exact hsteps.trans a1, a2⟩
end callT
