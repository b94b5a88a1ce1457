/-! products of worlds; methods with handlers -/
def xPr {α β : Type} (ω1 : xWd α) (ω2 : xWd β) : xWd (α × β) := (ω1.1, ω1.2.1, fun X => ω1.2.2 X.1 ++ ω2.2.2 X.2)
theorem xP_l {D : va_G} {cl : List vw_C} {w1 w2 : va_W} {H : Heap} (h : va_P D cl (w1 ++ w2) H) : va_P D cl w1 H := fun k q hk => h k q (by rw [List.getElem?_append_left (List.getElem?_eq_some_iff.mp hk).1]; exact hk)
theorem xP_r {D : va_G} {cl : List vw_C} {w1 w2 : va_W} {H : Heap} (h : va_P D cl (w1 ++ w2) H) : va_P D cl w2 H := fun k q hk => h (k + w1.length) q (by rw [List.getElem?_append_right (by omega), Nat.add_sub_cancel]; exact hk)
section lifts
variable {α β : Type} {ω1 : xWd α} {ω2 : xWd β}
theorem xA_l {sz q : Nat} (b : β) (h : xA ω1 sz q) : xA (xPr ω1 ω2) sz q := h.elim (fun ⟨X, k, e, hk⟩ => Or.inl ⟨(X, b), k, e, by
  have hk : (ω1.2.2 X)[k]? = some (q, e) := hk
  show (ω1.2.2 X ++ ω2.2.2 b)[k]? = _
  rw [List.getElem?_append_left (List.getElem?_eq_some_iff.mp hk).1]; exact hk⟩) Or.inr
theorem xA_r {sz q : Nat} (a : α) (h : xA ω2 sz q) : xA (xPr ω1 ω2) sz q := h.elim (fun ⟨X, k, e, hk⟩ => Or.inl ⟨(a, X), k + (ω1.2.2 a).length, e, by
  show (ω1.2.2 a ++ ω2.2.2 X)[k + (ω1.2.2 a).length]? = _
  rw [List.getElem?_append_right (by omega), Nat.add_sub_cancel]; exact hk⟩) Or.inr
theorem xkeep_r (hD : xD (xPr ω1 ω2)) {D : va_G} {cl : List vw_C} {b : β} {sz : Nat} {H H1 : Heap} (hsz : H.size = sz) (hP : va_P D cl (ω2.2.2 b) H) (hF : ∀ q, q < H.size → ¬ xA ω1 sz q → H1[q]? = H[q]?) : va_P D cl (ω2.2.2 b) H1 := by
  refine va_P.kept hP (fun k q hk => hF q.1 ((hP k q hk).lt) ?_)
  rintro (⟨X, k2, e2, hk2⟩ | hq)
  · have hk2 : (ω1.2.2 X)[k2]? = some (q.1, e2) := hk2
    have h1 := (hD (X, b)).1 (k + (ω1.2.2 X).length) k2 q (q.1, e2) (by show (ω1.2.2 X ++ ω2.2.2 b)[k + (ω1.2.2 X).length]? = _; rw [List.getElem?_append_right (by omega), Nat.add_sub_cancel]; exact hk) (by show (ω1.2.2 X ++ ω2.2.2 b)[k2]? = _; rw [List.getElem?_append_left (List.getElem?_eq_some_iff.mp hk2).1]; exact hk2) rfl
    have := (List.getElem?_eq_some_iff.mp hk2).1
    omega
  · have := (hP k q hk).lt; omega
theorem xkeep_l (hD : xD (xPr ω1 ω2)) {D : va_G} {cl : List vw_C} {a : α} {sz : Nat} {H H1 : Heap} (hsz : H.size = sz) (hP : va_P D cl (ω1.2.2 a) H) (hF : ∀ q, q < H.size → ¬ xA ω2 sz q → H1[q]? = H[q]?) : va_P D cl (ω1.2.2 a) H1 := by
  refine va_P.kept hP (fun k q hk => hF q.1 ((hP k q hk).lt) ?_)
  rintro (⟨X, k2, e2, hk2⟩ | hq)
  · have hk2 : (ω2.2.2 X)[k2]? = some (q.1, e2) := hk2
    have h1 := (hD (a, X)).1 k (k2 + (ω1.2.2 a).length) q (q.1, e2) (by show (ω1.2.2 a ++ ω2.2.2 X)[k]? = _; rw [List.getElem?_append_left (List.getElem?_eq_some_iff.mp hk).1]; exact hk) (by show (ω1.2.2 a ++ ω2.2.2 X)[k2 + (ω1.2.2 a).length]? = _; rw [List.getElem?_append_right (by omega), Nat.add_sub_cancel]; exact hk2) rfl
    have := (List.getElem?_eq_some_iff.mp hk).1
    omega
  · have := (hP k q hk).lt; omega
theorem CT.l1 {l : Launch} {y : MethodName} {cw : Cond} {rm : Room} {av : List Value} {a : α} {b : β} {Z : Option Value → α → Prop} (h : CT l ω1 y cw rm av a Z) (hD : xD (xPr ω1 ω2)) : CT l (xPr ω1 ω2) y cw rm av (a, b) (fun v Y => Y.2 = b ∧ Z v Y.1) := by
  intro sz p e ha hc hk s m args below hf happ hP hK
  obtain ⟨q0, q1, qP, qK⟩ := hP
  have qP : va_P ω1.1 classes (ω1.2.2 a ++ ω2.2.2 b) s.heap := qP
  obtain ⟨n, o, h1, h2, h3, ⟨⟨⟨v, Y, hv, hz, hP'⟩, hF⟩, L, hE, hL⟩⟩ := h sz p e ha hc hk s m args below hf happ ⟨q0, q1, xP_l qP, qK⟩ hK
  refine ⟨n, o, h1, h2, h3, ⟨⟨⟨v, (Y, b), hv, ⟨rfl, hz⟩, ?_⟩, hF.1, fun q hq hA => hF.2 q hq (fun h => hA (xA_l b h))⟩, L, hE, fun q hq => xA_l b (hL q hq)⟩⟩
  exact va_P.app (w1 := ω1.2.2 Y) (w2 := ω2.2.2 b) hP' (xkeep_r hD q1 (xP_r qP) hF.2)
theorem CT.l2 {l : Launch} {y : MethodName} {cw : Cond} {rm : Room} {av : List Value} {a : α} {b : β} {Z : Option Value → β → Prop} (h : CT l ω2 y cw rm av b Z) (e1 : ω2.1 = ω1.1) (e2 : ω2.2.1 = ω1.2.1) (hD : xD (xPr ω1 ω2)) : CT l (xPr ω1 ω2) y cw rm av (a, b) (fun v Y => Y.1 = a ∧ Z v Y.2) := by
  intro sz p e ha hc hk s m args below hf happ hP hK
  obtain ⟨q0, q1, qP, qK⟩ := hP
  have qP : va_P ω1.1 classes (ω1.2.2 a ++ ω2.2.2 b) s.heap := qP
  have qK' : xK ω2 s := by
    obtain ⟨k1, k2⟩ := qK
    refine ⟨?_, k2⟩
    show va_K ω2.1 classes (xTy ω2.2.1) s
    rw [e1, e2]; exact k1
  have qP2 : xH ω2 b s.heap := by show va_P ω2.1 classes (ω2.2.2 b) s.heap; rw [e1]; exact xP_r qP
  obtain ⟨n, o, h1, h2, h3, ⟨⟨⟨v, Y, hv, hz, hP'⟩, hF⟩, L, hE, hL⟩⟩ := h sz p e ha hc hk s m args below hf happ ⟨q0, q1, qP2, qK'⟩ hK
  refine ⟨n, o, h1, h2, h3, ⟨⟨⟨v, (a, Y), hv, ⟨rfl, hz⟩, ?_⟩, hF.1, fun q hq hA => hF.2 q hq (fun h => hA (xA_r a h))⟩, L, hE, fun q hq => xA_r a (hL q hq)⟩⟩
  have hP' : va_P ω2.1 classes (ω2.2.2 Y) (stepsAlone p.tables e n s).heap := hP'
  rw [e1] at hP'
  exact va_P.app (w1 := ω1.2.2 a) (w2 := ω2.2.2 Y) (xkeep_l hD q1 (xP_l qP) hF.2) hP'
theorem CTT.l1 {l : Launch} {y : MethodName} {cw : Cond} {rm : Room} {av : List Value} {a : α} {b : β} {T : Nat → Prop} (h : CTT l ω1 y cw rm av a T) (hD : xD (xPr ω1 ω2)) : CTT l (xPr ω1 ω2) y cw rm av (a, b) T := by
  intro sz p e ha hc hk s m args below hf happ hP hK
  obtain ⟨⟨q0, q1, qP, qK⟩, hth⟩ := hP
  have qP : va_P ω1.1 classes (ω1.2.2 a ++ ω2.2.2 b) s.heap := qP
  obtain ⟨n, o, h1, h2, h3, ⟨⟨⟨x, kd, cell, hv, hT, hkd, hP', hx, hcell, hcls, hvm⟩, hF⟩, L, hE, hL⟩⟩ := h sz p e ha hc hk s m args below hf happ ⟨⟨q0, q1, xP_l qP, qK⟩, hth⟩ hK
  refine ⟨n, o, h1, h2, h3, ⟨⟨⟨x, kd, cell, hv, hT, hkd, ?_, hx, hcell, hcls, hvm⟩, hF.1, fun q hq hA => hF.2 q hq (fun h => hA (xA_l b h))⟩, L, hE, fun q hq => xA_l b (hL q hq)⟩⟩
  exact va_P.app (w1 := ω1.2.2 a) (w2 := ω2.2.2 b) hP' (xkeep_r hD q1 (xP_r qP) hF.2)
theorem xSa.pr (h1 : xSa ω1) (h2 : xSa ω2) : xSa (xPr ω1 ω2) := by
  intro X Y
  show (ω1.2.2 X.1 ++ ω2.2.2 X.2).map (·.1) = (ω1.2.2 Y.1 ++ ω2.2.2 Y.2).map (·.1)
  rw [List.map_append, List.map_append]
  have e1 := h1 X.1 Y.1
  have e2 := h2 X.2 Y.2
  unfold xWf at e1 e2
  rw [e1, e2]
theorem xD.l (h : xD (xPr ω1 ω2)) [Inhabited β] : xD ω1 := by
  intro X
  refine ⟨fun i j p q hi hj e => ?_, fun _ _ _ => trivial⟩
  have hi : (ω1.2.2 X)[i]? = some p := hi
  have hj : (ω1.2.2 X)[j]? = some q := hj
  exact (h (X, default)).1 i j p q (by show (ω1.2.2 X ++ ω2.2.2 default)[i]? = _; rw [List.getElem?_append_left (List.getElem?_eq_some_iff.mp hi).1]; exact hi) (by show (ω1.2.2 X ++ ω2.2.2 default)[j]? = _; rw [List.getElem?_append_left (List.getElem?_eq_some_iff.mp hj).1]; exact hj) e
theorem xD.r (h : xD (xPr ω1 ω2)) [Inhabited α] : xD ω2 := by
  intro X
  refine ⟨fun i j p q hi hj e => ?_, fun _ _ _ => trivial⟩
  have hi : (ω2.2.2 X)[i]? = some p := hi
  have hj : (ω2.2.2 X)[j]? = some q := hj
  have := (h (default, X)).1 (i + (ω1.2.2 default).length) (j + (ω1.2.2 default).length) p q (by show (ω1.2.2 default ++ ω2.2.2 X)[i + (ω1.2.2 default).length]? = _; rw [List.getElem?_append_right (by omega), Nat.add_sub_cancel]; exact hi) (by show (ω1.2.2 default ++ ω2.2.2 X)[j + (ω1.2.2 default).length]? = _; rw [List.getElem?_append_right (by omega), Nat.add_sub_cancel]; exact hj) e
  omega
end lifts
/-- the exceptions' classes are apart -/
def NC (U : State) : Prop := ∀ i j : Nat, i < 3 → j < 3 → i ≠ j → ∀ ci cj : ClassId, U.vm.findClass (eN i) = some ci → U.vm.findClass (eN j) = some cj → U.vm.assignable ci cj = false
theorem NC.moved {s U : State} (hW : s.WarmedH U.vm) (h : NC s) : NC U := by
  intro i j hi hj hij ci cj h1 h2
  rw [hW.alike.findClass] at h1 h2
  rw [hW.alike.assignable]
  exact h i j hi hj hij ci cj h1 h2
/-- a contract of a method with handlers -/
def CTW {σ : Type} (l : Launch) (ω : xWd σ) (y : MethodName) (cw : Cond) (rm : Room) (av : List Value) (X : σ) (Z : Option Value → σ → Prop) : Prop :=
  ∀ sz : Nat, Met l y (cw :: xw_ok) rm (fun a U => xPc ω sz av X a U ∧ TH U ∧ NC U) (xQ ω sz Z) rm.cells rm.slots (xA ω sz)
theorem CTW.of {σ : Type} {l : Launch} {ω : xWd σ} {y : MethodName} {cc : ByteArray} {nL : Nat} {ret : Option FieldType} {hh : List (Nat × Nat × Nat × Nat)} {rm : Room} {av : List Value} {X : σ} {Z : Option Value → σ → Prop}
    (hy : plainName y.cls = true) (hn : (lg_sl av).length ≤ nL) (hD : xD ω) (hsa : xSa ω) (htr : ∀ e : Env, l.admits e → e.platform.stackTraces = false)
    (body : ∀ κ : Cx, kL κ = l → kA κ = av.toArray → OKc κ ω nL cc y.cls ret rm → OKt κ ω X → NC (kS κ) → (kC κ).exceptionTable.toList.map (fun h => (h.startPc, h.endPc, h.handlerPc, h.catchType)) = hh → GW κ ω nL (0, 0) (xMQ κ ω rm Z) X 0 (lv_args 0 av) []) : CTW l ω y (.codeWith y cc nL ret hh) rm av X Z := by
  intro sz
  refine va_MetW (cc := cc) (maxL := nL) (ret := ret) (hh := hh) hy rfl ?_
  intro p e s m args below meth c s₁ B hml hv
  obtain ⟨⟨rfl, hsz, hP, hK⟩, hth, hnc⟩ := hv
  have hts := atoms_spec (ws := Cond.codeWith y cc nL ret hh :: xw_ok) B.pre
  have hown : s.vm.findClass y.cls = some m.cls := findClass_of_methodNamed B.named
  obtain ⟨m', meth', c', g1, g2, g3, -, -, g6, -, -, -⟩ := Cond.codeWith_spec (hts _ List.mem_cons_self)
  cases B.named.symm.trans g1
  cases B.method.symm.trans g2
  cases (Stand.of_body B).code.symm.trans g3
  subst hsz
  have hl := lv_entry av (n := nL) hn
  rw [lg_entry_eq]
  generalize (lg_sl av ++ List.replicate (nL - (lg_sl av).length) Slot.unset).toArray = ls at hl ⊢
  exact body (p, l, e, rm, s, m, av.toArray, below, meth, c) rfl rfl ⟨B.exec, B.bytes, hml, hown, fun w hw => hts w (List.mem_cons_of_mem _ hw), hK, hD, B.returns, B.notSynchronized, rfl⟩ ⟨xns hP hsa, hth, htr e B.admits, hsa⟩ hnc g6 s.heap [] ls hP va_S.rf hl
section callW
variable {σ : Type} {κ : Cx} {ω : xWd σ} {nL : Nat} {k : Nat × Nat} {Q : State → Prop} {X X0 : σ} {pc : Nat} {lv : List (Nat × Value)} {st st0 : List Value} {cc : ByteArray} {own : String} {ret : Option FieldType} {rm : Room}
def xMiW (y : MethodName) (cw : Cond) (n : Nat) : Prop := cw ∈ xw_ok ∧ Cond.initialized y.cls ∈ xw_ok ∧ y.cls ≠ "java/lang/invoke/MethodHandle" ∧ y.cls ≠ "java/lang/invoke/VarHandle" ∧ (parseMethodDescriptor y.desc).map (fun d => d.parameters.length) = some n
theorem gw_callSW {Z : Option Value → σ → Prop} {y : MethodName} {bytes : ByteArray} {maxL idx n : Nat} {retY : Option FieldType} {hh : List (Nat × Nat × Nat × Nat)} {rmY : Room} {As : List Value} (o : OKc κ ω nL cc own ret rm) (t : OKt κ ω X0) (hnc : NC (kS κ))
    (ct : CTW (kL κ) ω y (.codeWith y bytes maxL retY hh) rmY As X Z) (mi : xMiW y (.codeWith y bytes maxL retY hh) n) (hl1 : Cond.methodLink own idx y ∈ xw_ok) (hl2 : Cond.static y ∈ xw_ok)
    (hro : xRo rm k rmY maxL) (hs : st0 = As.reverse ++ st) (hn : As.length = n) (hst : (st.map fun v => v.category).sum ≤ 8) (hd : decode cc pc = .ok (.invokestatic idx, 3))
    (kk : ∀ (v : Option Value) (Y : σ), Z v Y → GW κ ω nL (k.1 + rmY.cells, k.2 + rmY.slots) Q Y (pc + 3) lv (v.toList ++ st)) : GW κ ω nL k Q X pc lv st0 := by
  subst hs
  intro H locs ls hP hS hl T0 hT0 XS
  obtain ⟨hx, hb, hml, hown, hts, hK, hD, hr, hlocks, hR⟩ := o
  obtain ⟨mk, methM, cM, hnamed, hmethM, -, -, -, -, -, -, hsigM⟩ := Cond.codeWith_spec (hts _ mi.1)
  have hstatic : methM.isStatic = true := Cond.static_spec hnamed hmethM (hts _ hl2)
  obtain ⟨kP', hkP, -⟩ := className_of_methodNamed hnamed
  have hinitP : kP'.init = .initialized := Cond.initialized_spec (findClass_of_methodNamed hnamed) hkP (hts _ mi.2.1)
  have hlen : As.length = methM.sig.parameters.length := by
    have h2 := mi.2.2.2.2
    rw [hsigM] at h2
    exact hn.trans (Option.some.inj h2).symm
  obtain ⟨vm₁, X₁, hstep₁⟩ := XS.invokestatic hx hown (hts _ hl1) hnamed hmethM hstatic hkP hinitP ⟨mi.2.2.1, mi.2.2.2.1⟩ (g := F0 (kM κ) pc ls (As.reverse ++ st)) rfl (argsL := As) (rest := st) hlen rfl (by rw [hb]; exact hd)
  have hbl : FrameBlind (fun a U => xPc ω H.size As X a U ∧ TH U ∧ NC U) := fun a U g mk h => ⟨xPc.blind a U g mk h.1, h.2.1.moved (State.WarmedH.refl U) (fun _ _ h _ => h), h.2.2.moved (State.WarmedH.refl U)⟩
  have hB : Back (kL κ) (kR κ) (kP κ) (kE κ) (kB κ) (kS κ) (kA κ) y 3 8 (PreOf (kR κ) rmY.cells rmY.slots (fun a U => xPc ω H.size As X a U ∧ TH U ∧ NC U)) (PostOf (xQ ω H.size Z) rmY.cells rmY.slots (xA ω H.size)) :=
    va_backW (bytes := bytes) (maxL := maxL) (ret := retY) (hh := hh) (ct H.size) hbl rfl rfl (by rw [hR]; exact hro.1) (by rw [hR]; exact hro.2.1) (fun w hw a' U hW => pay_in hts (xw_in mi.1) w hw a' U hW) List.mem_cons_self (fun a' U hW => pay_in hts (fun w h => ⟨h, xw_good h⟩) _ mi.2.1 a' U hW)
  obtain ⟨v, B, X', hpost, hsteps⟩ := hB (kM κ) (kMe κ) (kC κ) ⟨T0.setVm vm₁, locs, k.1, k.2⟩ { F0 (kM κ) pc ls (As.reverse ++ st) with stack := st } (.invokestatic idx) mk As.toArray X₁ rfl (hl.1.trans hml.symm) (by rw [hb]; exact hd) (lv_room (rest := st) hst) (X₁.named hnamed)
    ⟨by rw [hR]; exact hro.2.2.1, by rw [hR]; exact hro.2.2.2, ⟨rfl, by show T0.heap.size = H.size; rw [hT0], by show xH ω X T0.heap; rw [hT0]; exact hP, hK.warm X₁.warmed⟩, t.th hS (U := T0.setVm vm₁) hT0 X₁.warmed, hnc.moved X₁.warmed⟩
  obtain ⟨U', l2, c2, s2⟩ := B
  obtain ⟨g', mk', t', L, e1, e2, ⟨⟨v', Y, hv, hz, hP'⟩, hF⟩, h1, hL, h2, h3⟩ := hpost
  dsimp only [Pt.U, Pt.locs, Pt.cells, Pt.slots] at X' e1 e2 h1 h2 h3 hsteps
  cases hv
  subst h1; subst h2; subst h3
  have hF' : va_F (xA ω H.size) (T0.setVm vm₁) U' := by
    refine ⟨by rw [e1]; exact hF.1, fun q hq hA => ?_⟩
    rw [e1]; exact hF.2 q hq hA
  have hS2 : va_S (xA ω (kS κ).heap.size) (kS κ).heap U'.heap (locs ++ L) := xS_app (A := fun _ => True) hS (U := T0.setVm vm₁) hT0 hL hF'
  obtain ⟨t2, a1, b1⟩ := kk v Y hz U'.heap (locs ++ L) ls (by rw [e1]; exact hP') hS2 hl U' rfl X'
  exact ⟨t2, hstep₁ _ fun acts => by rw [doInvoke_state]; exact hsteps.trans a1, b1⟩
end callW
