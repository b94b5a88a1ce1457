/-! a throwing call that is caught -/
def xCat (own : String) (hs : List (Nat × Nat × Nat × Nat)) (pc kd hpc : Nat) : Prop :=
  (∃ (a b ct : Nat) (rest : List (Nat × Nat × Nat × Nat)), hs = (a, b, hpc, ct) :: rest ∧ a ≤ pc ∧ pc < b ∧ ct ≠ 0 ∧ Cond.classLink own ct (eN kd) ∈ xw_ok) ∨
  (∃ (a b h1 c1 a2 b2 c2 kd' : Nat) (rest : List (Nat × Nat × Nat × Nat)), hs = (a, b, h1, c1) :: (a2, b2, hpc, c2) :: rest ∧ a ≤ pc ∧ pc < b ∧ c1 ≠ 0 ∧ kd' < 3 ∧ kd ≠ kd' ∧ Cond.classLink own c1 (eN kd') ∈ xw_ok ∧ a2 ≤ pc ∧ pc < b2 ∧ c2 ≠ 0 ∧ Cond.classLink own c2 (eN kd) ∈ xw_ok)
theorem xcov {x : ExceptionTableEntry} {pc a b h ct : Nat} (e : (x.startPc, x.endPc, x.handlerPc, x.catchType) = (a, b, h, ct)) (h1 : a ≤ pc) (h2 : pc < b) : covers x pc = true ∧ x.handlerPc = h ∧ x.catchType = ct := by
  cases e
  exact ⟨by simp [covers, h1, h2], rfl, rfl⟩
theorem xfinds {p : Program} {l : Launch} {e : Env} {R : Room} {s : State} {m : MethodId} {args : Array Value} {below : List Frame} {meth : Method} {c : Code} {T' : State} {locs : List Loc} {cells slots : Nat}
    (XS : Stand p l e R s m args below meth c T' locs cells slots) {own : String} (hown : s.vm.findClass own = some m.cls) (hts : ∀ w ∈ xw_ok, w.before args s = true) (hth : TH T') (hnc : NC s) {hs : List (Nat × Nat × Nat × Nat)} (hex : c.exceptionTable.toList.map (fun h => (h.startPc, h.endPc, h.handlerPc, h.catchType)) = hs)
    {g : JFrame} (hg : g.method = m) {kd hpc x : Nat} {cell : Cell} (hkd : kd < 3) (hcat : xCat own hs g.pc kd hpc) (hcell : T'.heap[x]? = some cell) (hcls : T'.vm.findClass (eN kd) = some cell.cls) (hvm : cell.vm = .none) :
    ∃ vm', s.WarmedH vm' ∧ xFinds e ((T'.setTop g).pushFrame (.throwing x)) g x (.found hpc) vm' := by
  subst hg
  have hpl : e.platform.magicAccessors = ({} : Platform).magicAccessors := by rw [XS.admits.platform]
  have hW := XS.warmed
  have hobj : ∀ k, cell.vm ≠ .statics k := fun k h => by rw [hvm] at h; cases h
  have hcast : (Cond.castable (eN kd) (eN kd)).before #[] T' = true := by
    rcases (show kd = 0 ∨ kd = 1 ∨ kd = 2 by omega) with rfl | rfl | rfl
    · exact hth _ (by simp [th_ws])
    · exact hth _ (by simp [th_ws])
    · exact hth _ (by simp [th_ws])
  obtain ⟨c3, c4, hc3, hc4, hasg⟩ := Cond.castable_spec hcast
  cases hc3.symm.trans hcls
  cases hc4.symm.trans hcls
  obtain ⟨kC, hkC⟩ := Vm.classAt_of_findClass hcls
  have hm' : ((T'.setTop g).pushFrame (.throwing x)).vm.method? g.method = some meth := by rw [Stand.throwing_vm]; exact XS.method'
  have hcell' : ((T'.setTop g).pushFrame (.throwing x)).heap[x]? = some cell := by rw [Stand.throwing_heap]; exact hcell
  have key : ∀ (ct kd2 : Nat), Cond.classLink own ct (eN kd2) ∈ xw_ok → ∃ c2 : ClassId, s.vm.findClass (eN kd2) = some c2 ∧ s.vm.ClassLinks e.platform g.method.cls ct c2 := fun ct kd2 h => Cond.classLink_spec hown (hts _ h) e.platform hpl
  rcases hcat with ⟨a, b, ct, rest, hhs, h1, h2, h0, hlink⟩ | ⟨a, b, h1, c1, a2, b2, c2, kd', rest, hhs, g1, g2, g3, hkd', hne, hlink1, g4, g5, g6, hlink2⟩
  · obtain ⟨cc, hcc, hl⟩ := key ct kd hlink
    have hceq : cc = cell.cls := by
      have h9 := hcls
      rw [hW.alike.findClass] at h9
      exact Option.some.inj (hcc.symm.trans h9)
    subst hceq
    obtain ⟨dk, _, _, kt, hd, _, _, _, _, hkt, _, hopen⟩ := hl.here
    cases het : c.exceptionTable.toList with
    | nil => rw [het, hhs] at hex; cases hex
    | cons xe t =>
      rw [het, hhs, List.map_cons] at hex
      obtain ⟨q1, q2, q3⟩ := xcov (List.cons.inj hex).1 h1 h2
      refine ⟨_, hW.noted hd hopen (State.rightAt_cls hl), fun Q E d acts => ?_⟩
      rw [W.findHandler_eq hm' XS.code, het]
      rw [xgo_hit (s := (T'.setTop g).pushFrame (.throwing x)) q1 (by rw [q3]; exact h0) (by rw [q3, Stand.throwing_vm]; exact hW.classLinks hl) hcell' hobj (by rw [Stand.throwing_vm]; exact ⟨kC, hkC⟩) (by rw [Stand.throwing_vm]; exact ⟨kC, hkC⟩) (by rw [Stand.throwing_vm]; exact hasg), q2, q3, Stand.throwing_vm]
  · obtain ⟨cc1, hcc1, hl1⟩ := key c1 kd' hlink1
    obtain ⟨cc, hcc, hl⟩ := key c2 kd hlink2
    have hceq : cc = cell.cls := by
      have h9 := hcls
      rw [hW.alike.findClass] at h9
      exact Option.some.inj (hcc.symm.trans h9)
    subst hceq
    have hno : T'.vm.assignable cell.cls cc1 = false := by
      rw [hW.alike.assignable]
      exact hnc kd kd' hkd hkd' hne _ _ hcc hcc1
    obtain ⟨dk, _, _, kt, hd, _, _, _, _, hkt, _, hopen⟩ := hl.here
    obtain ⟨dk1, _, _, kt1, hd1, _, _, _, _, hkt1, _, hopen1⟩ := hl1.here
    obtain ⟨kt1', hkt1', -⟩ := hW.alike.2.2 _ _ hkt1
    cases het : c.exceptionTable.toList with
    | nil => rw [het, hhs] at hex; cases hex
    | cons xe t =>
      rw [het, hhs, List.map_cons] at hex
      obtain ⟨q1, q2, q3⟩ := xcov (List.cons.inj hex).1 g1 g2
      cases t with
      | nil => cases (List.cons.inj hex).2
      | cons xe2 t2 =>
        have hex2 := (List.cons.inj hex).2
        rw [List.map_cons] at hex2
        obtain ⟨r1, r2, r3⟩ := xcov (List.cons.inj hex2).1 g4 g5
        have hW1 := hW.noted hd1 hopen1 (State.rightAt_cls hl1)
        obtain ⟨kC', hkC', -⟩ := ((Vm.Alike.refl T'.vm).noted g.method.cls c1 (.cls cc1)).2.2 _ _ hkC
        refine ⟨_, hW1.noted hd hopen (State.rightAt_cls hl), fun Q E d acts => ?_⟩
        rw [W.findHandler_eq hm' XS.code, het]
        rw [xgo_miss (s := (T'.setTop g).pushFrame (.throwing x)) q1 (by rw [q3]; exact g3) (by rw [q3, Stand.throwing_vm]; exact hW.classLinks hl1) hcell' hobj (by rw [Stand.throwing_vm]; exact ⟨kC, hkC⟩) (by rw [Stand.throwing_vm]; exact ⟨kt1', hkt1'⟩) (by rw [Stand.throwing_vm]; exact hno), q3, Stand.throwing_vm]
        rw [xgo_hit (s := ((T'.setTop g).pushFrame (.throwing x)).setVm (T'.vm.noted g.method.cls c1 (.cls cc1))) r1 (by rw [r3]; exact g6) (by rw [r3]; exact hW1.classLinks hl) hcell' hobj ⟨kC', hkC'⟩ ⟨kC', hkC'⟩ (by show (T'.vm.noted g.method.cls c1 (.cls cc1)).assignable _ _ = true; rw [((Vm.Alike.refl T'.vm).noted g.method.cls c1 (.cls cc1)).assignable]; exact hasg), r2, r3]
        rfl
section catchV
variable {σ : Type} {κ : Cx} {ω : xWd σ} {nL : Nat} {k : Nat × Nat} {Q : State → Prop} {X X0 : σ} {pc : Nat} {lv : List (Nat × Value)} {st st0 : List Value} {cc : ByteArray} {own : String} {ret : Option FieldType} {rm : Room}
theorem gw_catchV {T : Nat → Prop} {y : MethodName} {bytes : ByteArray} {maxL idx n ci N : Nat} {retY : Option FieldType} {rmY : Room} {b : Nat} {As : List Value} {C : String} {Tt : u_T} {fs : List Value} {hs : List (Nat × Nat × Nat × Nat)} (o : OKc κ ω nL cc own ret rm) (t : OKt κ ω X0) (hnc : NC (kS κ)) (hex : (kC κ).exceptionTable.toList.map (fun h => (h.startPc, h.endPc, h.handlerPc, h.catchType)) = hs)
    (ct : CTT (kL κ) ω y (.code y bytes maxL retY) rmY (.ref b :: As) X T) (mi : xMi y (.code y bytes maxL retY) n) (hl1 : Cond.methodLink own idx y ∈ xw_ok) (hl2 : Cond.instanceMethod y ∈ xw_ok) (hl3 : Cond.selects C y y ∈ xw_ok)
    (q0 : Nat) (he : (xWf ω X)[q0]? = some (b, .inr (ci, fs))) (hc : classes[ci]? = some (C, Tt, N)) (hro : xRo rm k rmY maxL) (hs0 : st0 = As.reverse ++ .ref b :: st) (hn : As.length = n) (hst : (st.map fun v => v.category).sum ≤ 8) (hd : decode cc pc = .ok (.invokevirtual idx, 3))
    (kk : ∀ kd, T kd → kd < 3 → ∃ hpc, xCat own hs pc kd hpc ∧ ∀ a, GW κ ω nL (k.1 + rmY.cells, k.2 + rmY.slots) Q X hpc lv [.ref a]) : GW κ ω nL k Q X pc lv st0 := by
  subst hs0
  intro H locs ls hP hS hl T0 hT0 XS
  obtain ⟨hx, hb, hml, hown, hts, hK, hD, hr, hlocks, hR⟩ := o
  obtain ⟨cellB, hcB, hoB, hclB⟩ := va_recv hK.1 hP hc he
  obtain ⟨mk, methM, hnamed, hmethM, hstM, habM⟩ := Cond.instanceMethod_spec (hts _ hl2)
  obtain ⟨methM', cM, hmethM', -, -, -, -, -, -, hsigM⟩ := Cond.code_spec hnamed (hts _ mi.1)
  cases hmethM.symm.trans hmethM'
  obtain ⟨c2, r2, m2, q1, q2, q3, q4, kP', hkP, hkPi⟩ := Cond.selects_spec (hts _ hl3)
  cases hclB.symm.trans q1
  cases (State.methodFound?_of_named hnamed ⟨mi.2.2.1, mi.2.2.2.1⟩).symm.trans q2
  cases hnamed.symm.trans q3
  have hselP : selectMethod (kE κ).platform (kS κ).vm cellB.cls mk = .method mk := by rw [Launch.admits_selectMethod XS.admits]; exact q4
  have hlen : As.length = methM.sig.parameters.length := by
    have h2 := mi.2.2.2.2
    rw [hsigM] at h2
    exact hn.trans (Option.some.inj h2).symm
  obtain ⟨vm₁, X₁, hstep₁⟩ := XS.invokevirtual hx hown (hts _ hl1) hnamed hmethM hstM hkP hkPi ⟨mi.2.2.1, mi.2.2.2.1⟩ (a := b) (cell := cellB) (by rw [hT0]; exact hcB)
    (fun z h => by rw [h] at hoB; cases hoB) hselP hmethM habM hkP hkPi (g := F0 (kM κ) pc ls (As.reverse ++ .ref b :: st)) rfl (argsL := As) (rest := st) hlen rfl (by rw [hb]; exact hd)
  have hst2 := xstat (U := T0.setVm vm₁) hts mi X₁.warmed (Value.ref b :: As).toArray
  obtain ⟨x, kd, cell, T', L, hsteps, X', hL, hT, hkd, hPx, hxx, hcell, hcls, hvm, hF⟩ := xthrown X₁ ct (g := { F0 (kM κ) pc ls (As.reverse ++ .ref b :: st) with stack := st }) (ig := .invokevirtual idx) (mk := mk) rfl (hl.1.trans hml.symm) (by rw [hb]; exact hd) (lv_room (rest := st) hst) (X₁.named hnamed) rfl hst2.1 hst2.2 (by rw [hR]; exact hro)
    (by show xH ω X T0.heap; rw [hT0]; exact hP) (hK.warm X₁.warmed) (t.th hS (U := T0.setVm vm₁) hT0 X₁.warmed)
  have hUh : (T0.setVm vm₁).heap = H := hT0
  rw [hUh] at hL hxx hF
  have hS2 : va_S (xA ω (kS κ).heap.size) (kS κ).heap T'.heap (locs ++ L) := xS_app (A := fun _ => True) hS hUh hL hF
  obtain ⟨hpc, hcat, hgo⟩ := kk kd hT hkd
  obtain ⟨vm', hWv, hfind⟩ := xfinds X' hown hts (t.th hS2 (U := T') rfl X'.warmed) hnc hex (g := { F0 (kM κ) pc ls (As.reverse ++ .ref b :: st) with stack := st }) rfl hkd hcat hcell hcls hvm
  obtain ⟨t2, a1, b1⟩ := hgo x T'.heap (locs ++ L) ls hPx hS2 hl (T'.setVm vm') rfl (X'.noted hWv)
  exact ⟨t2, hstep₁ _ fun acts => by rw [doInvoke_state]; exact hsteps.trans (xCaught X'.here hfind a1), b1⟩
end catchV
