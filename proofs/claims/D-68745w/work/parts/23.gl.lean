/-! constructors: a world that grows -/
def GL (κ : Cx) (D : va_G) (A : Nat → Prop) (nL : Nat) (k : Nat × Nat) (Q : State → Prop) (ws : va_W) (pc : Nat) (lv : List (Nat × Value)) (st : List Value) : Prop :=
  ∀ (H : Heap) (locs : List Loc) (ls : Array Slot), va_P D classes ws H → va_D A ws → va_S A (kS κ).heap H locs → lv_has ls nL lv → WK κ H locs k.1 k.2 Q (F0 (kM κ) pc ls st)
def OKi (κ : Cx) (D : va_G) (ca : xCa) (A : Nat → Prop) (nL : Nat) (cc : ByteArray) (own : String) (rm : Room) : Prop :=
  (kP κ).tables.exec = Jvm.exec ∧ (kC κ).code = cc ∧ (kC κ).maxLocals = nL ∧ (kS κ).vm.findClass own = some (kM κ).cls ∧ (∀ w ∈ xw_ok, w.before (kA κ) (kS κ) = true) ∧ (va_K D classes (xTy ca) (kS κ) ∧ xG (kS κ)) ∧ (∀ q, (kS κ).heap.size ≤ q → A q) ∧ (kMe κ).locks = false ∧ kR κ = rm
section glrows
variable {κ : Cx} {D : va_G} {ca : xCa} {A : Nat → Prop} {nL : Nat} {k : Nat × Nat} {Q : State → Prop} {ws : va_W} {pc : Nat} {lv lv' : List (Nat × Value)} {st : List Value} {cc : ByteArray} {own : String} {rm : Room}
theorem gl_iconst {n : Int} {v : Int32} (o : OKi κ D ca A nL cc own rm) (hd : decode cc pc = .ok (.iconst n, 1)) (hv : Int32.ofInt n = v) (kk : GL κ D A nL k Q ws (pc + 1) lv (.int v :: st)) : GL κ D A nL k Q ws pc lv st := fun H locs ls hP hD hS hl => lv_iconst o.1 o.2.1 hd hv (kk H locs ls hP hD hS hl)
theorem gl_bipush {n : Int} {v : Int32} (o : OKi κ D ca A nL cc own rm) (hd : decode cc pc = .ok (.bipush n, 2)) (hv : (Int8.ofInt n).toInt32 = v) (kk : GL κ D A nL k Q ws (pc + 2) lv (.int v :: st)) : GL κ D A nL k Q ws pc lv st := fun H locs ls hP hD hS hl => lv_bipush o.1 o.2.1 hd hv (kk H locs ls hP hD hS hl)
theorem gl_sipush {n : Int} {v : Int32} (o : OKi κ D ca A nL cc own rm) (hd : decode cc pc = .ok (.sipush n, 3)) (hv : (Int16.ofInt n).toInt32 = v) (kk : GL κ D A nL k Q ws (pc + 3) lv (.int v :: st)) : GL κ D A nL k Q ws pc lv st := fun H locs ls hP hD hS hl => lv_sipush o.1 o.2.1 hd hv (kk H locs ls hP hD hS hl)
theorem gl_ldc {index : Nat} {v : Int32} (o : OKi κ D ca A nL cc own rm) (hc : Cond.constant own index v ∈ xw_ok) (hd : decode cc pc = .ok (.ldc index, 2)) (kk : GL κ D A nL k Q ws (pc + 2) lv (.int v :: st)) : GL κ D A nL k Q ws pc lv st := fun H locs ls hP hD hS hl => lv_ldc o.1 o.2.1 o.2.2.2.1 (o.2.2.2.2.1 _ hc) hd (kk H locs ls hP hD hS hl)
theorem gl_aload_n {kf : Fin 4} {i x : Nat} (o : OKi κ D ca A nL cc own rm) (hd : decode cc pc = .ok (.aload_n kf, 1)) (hi : (kf : Nat) = i) (j : Nat) (hj : lv[j]? = some (i, .ref x)) (kk : GL κ D A nL k Q ws (pc + 1) lv (.ref x :: st)) : GL κ D A nL k Q ws pc lv st := fun H locs ls hP hD hS hl => lv_aload_n o.1 o.2.1 hd hi (lv_at hl j hj) (kk H locs ls hP hD hS hl)
theorem gl_dup {va : Value} (o : OKi κ D ca A nL cc own rm) (hd : decode cc pc = .ok (.dup, 1)) (hva : va.category = 1) (kk : GL κ D A nL k Q ws (pc + 1) lv (va :: va :: st)) : GL κ D A nL k Q ws pc lv (va :: st) := fun H locs ls hP hD hS hl => lv_dup o.1 o.2.1 hd hva (kk H locs ls hP hD hS hl)
theorem gl_astore_n {i : Nat} {kf : Fin 4} {x : Nat} (o : OKi κ D ca A nL cc own rm) (hd : decode cc pc = .ok (.astore_n kf, 1)) (hi : (kf : Nat) = i) (hn : i < nL) (hl2 : (i, Value.ref x) :: lv.filter (fun q => !(q.1 == i) && !(q.1 + 1 == i && q.2.category == 2)) = lv') (kk : GL κ D A nL k Q ws (pc + 1) lv' st) : GL κ D A nL k Q ws pc lv (.ref x :: st) := fun H locs ls hP hD hS hl => lv_astore_n o.1 o.2.1 hd hi hl hn hl2 (fun ls' hl' => kk H locs ls' hP hD hS hl')
theorem gl_objInit {idx a : Nat} (o : OKi κ D ca A nL cc own rm) (h1 : Cond.methodLink own idx Lib.objectInit ∈ xw_ok) (h2 : Cond.instanceMethod Lib.objectInit ∈ xw_ok) (h3 : Cond.code Lib.objectInit ⟨#[0xb1]⟩ 1 none ∈ xw_ok) (hf : 1 ≤ rm.frames) (hlo : (st.map fun v => v.category).sum ≤ 8 ∧ 20 ≤ rm.locals) (hd : decode cc pc = .ok (.invokespecial idx, 3)) (kk : GL κ D A nL k Q ws (pc + 3) lv st) : GL κ D A nL k Q ws pc lv (.ref a :: st) := by
  intro H locs ls hP hD hS hl
  obtain ⟨hx, hb, hml, hown, hts, hK, hA, hlocks, hR⟩ := o
  exact W.objInit hx hb hown (hts _ h1) (hts _ h2) (hts _ h3) (g := F0 (kM κ) pc ls (.ref a :: st)) rfl (by rw [hml]; exact hl.1) rfl hd (by rw [hR]; exact hf) (by rw [hR]; have := lv_room (m := kM κ) (pc := pc) (ls := ls) (rest := .ref a :: st) hlo.1; omega) (kk H locs ls hP hD hS hl)
/-- a new array of zeros -/
theorem gl_newa {atype : ArrayType} {ty : FieldType} {i0 N : Nat} {n : Int32} {a0 : vp_A} {w' : Nat → va_W} (o : OKi κ D ca A nL cc own rm) (harr : Cond.arrayClass ty ∈ xw_ok) (hty : newarray.typeOf atype = ty) (hi : (xTy ca)[i0]? = some (ca i0, ty)) (hra : ∀ (U : State) (c : ClassId), va_RA U c ty → U.vm.findClass ("[" ++ ty.toString) = some c) (ha : ∀ cA : ClassId, vp_cell cA a0 = arrV cA N (fun _ => defaultValue ty)) (hn : ¬ n < 0) (hN : n.toNatClampNeg = N) (hby : N * componentBytes ty ≤ 536870912) (hc : k.1 + 1 ≤ rm.cells) (hs : k.2 + N ≤ rm.slots) (hw : ∀ q, ws ++ [(q, .inl (ca i0, a0))] = w' q) (hd : decode cc pc = .ok (.newarray atype, 2))
    (kk : ∀ q, (kS κ).heap.size ≤ q → GL κ D A nL (k.1 + 1, k.2 + N) Q (w' q) (pc + 2) lv (.ref q :: st)) : GL κ D A nL k Q ws pc lv (.int n :: st) := by
  intro H locs ls hP hD hS hl
  obtain ⟨hx, hb, hml, hown, hts, hK, hA, hlocks, hR⟩ := o
  subst hty
  refine va_newaK hx hb (hts _ harr) (g := F0 (kM κ) pc ls (.int n :: st)) rfl hd rfl hn hN hby (by rw [hR]; exact hc) (by rw [hR]; exact hs) rfl (fun H1 cA e1 z1 o1 hArr hfd => ?_)
  have hcA : cA = ca i0 := Option.some.inj (hfd.symm.trans (hra _ _ (hK.1.2 i0 _ hi).2))
  subst hcA
  have hk : ∀ (k : Nat) (x : Nat × va_E), ws[k]? = some x → H1[x.1]? = H[x.1]? := fun k x hx => o1 x.1 ((hP k x hx).lt)
  refine kk H.size hS.1 H1 locs ls ?_ ?_ ⟨Nat.le_trans hS.1 (by omega), fun x h1 h2 => (o1 x (Nat.lt_of_lt_of_le h1 hS.1)).trans (hS.2.1 x h1 h2), hS.2.2⟩ hl
  · rw [← hw]
    refine (hP.kept hk).app (fun k x hx => ?_)
    have hz : k < 1 := (List.getElem?_eq_some_iff.mp hx).1
    rw [show k = 0 by omega] at hx
    cases hx
    show H1[H.size]? = some (vp_cell (ca i0) a0)
    rw [ha]; exact e1
  · rw [← hw]; exact hD.push hP rfl (hA _ hS.1)
theorem gl_putF {C : String} {T : u_T} {N ci idx : Nat} {a : Nat} {fs : List Value} {v : Value} {ty : FieldType} {ws' : va_W} (o : OKi κ D ca A nL cc own rm) (hini : (kMe κ).name = "<init>") (hin : ∀ w ∈ u_ws C T N, w ∈ xw_ok) (ty0 : Nat → FieldType) (hty : ∀ k, k < N → parseFieldDescriptor (T k).2.2.1 = some (ty0 k)) (hnm : ∀ a, a < N → ∀ b, b < N → a ≠ b → (T a).2.1 ≠ (T b).2.1) (q0 : Nat) (he : ws[q0]? = some (a, .inr (ci, fs))) (hc : classes[ci]? = some (C, T, N)) (kf : Nat) (hk : kf < N) (hlink : Cond.fieldLink own idx (T kf).1 (T kf).2.1 (T kf).2.2.1 ∈ xw_ok) (hfin : (T kf).2.2.2 = true) (hdecl : (T kf).1 = own) (hde : parseFieldDescriptor (T kf).2.2.1 = some ty) (hn : narrow ty v = v) (hfit : fits ty v = true) (hlen : kf < fs.length) (hX : ws.set q0 (a, .inr (ci, fs.set kf v)) = ws') (hd : decode cc pc = .ok (.putfield idx, 3)) (kk : GL κ D A nL k Q ws' (pc + 3) lv st) : GL κ D A nL k Q ws pc lv (v :: .ref a :: st) := fun H locs ls hP hD hS hl =>
  va_putF o.1 o.2.1 o.2.2.2.2.1 hin ty0 hty hnm o.2.2.2.1 o.2.2.2.2.2.1.1 hP hD hS q0 he hc kf hk (o.2.2.2.2.1 _ hlink) (fun _ h9 => h9) hfin hini hdecl hde hn hfit hlen hd (fun H1 locs1 hP1 hD1 hS1 => kk H1 locs1 ls (by rw [hX] at hP1; exact hP1) (by rw [hX] at hD1; exact hD1) hS1 hl)
theorem gl_put {C : String} {T : u_T} {N ci idx : Nat} {a : Nat} {fs : List Value} {v : Value} {ty : FieldType} {ws' : va_W} (o : OKi κ D ca A nL cc own rm) (hin : ∀ w ∈ u_ws C T N, w ∈ xw_ok) (ty0 : Nat → FieldType) (hty : ∀ k, k < N → parseFieldDescriptor (T k).2.2.1 = some (ty0 k)) (hnm : ∀ a, a < N → ∀ b, b < N → a ≠ b → (T a).2.1 ≠ (T b).2.1) (q0 : Nat) (he : ws[q0]? = some (a, .inr (ci, fs))) (hc : classes[ci]? = some (C, T, N)) (kf : Nat) (hk : kf < N) (hlink : Cond.fieldLink own idx (T kf).1 (T kf).2.1 (T kf).2.2.1 ∈ xw_ok) (hfin : (T kf).2.2.2 = false) (hde : parseFieldDescriptor (T kf).2.2.1 = some ty) (hn : narrow ty v = v) (hfit : fits ty v = true) (hlen : kf < fs.length) (hX : ws.set q0 (a, .inr (ci, fs.set kf v)) = ws') (hd : decode cc pc = .ok (.putfield idx, 3)) (kk : GL κ D A nL k Q ws' (pc + 3) lv st) : GL κ D A nL k Q ws pc lv (v :: .ref a :: st) := fun H locs ls hP hD hS hl =>
  va_put o.1 o.2.1 o.2.2.2.2.1 hin ty0 hty hnm o.2.2.2.1 o.2.2.2.2.2.1.1 hP hD hS q0 he hc kf hk (o.2.2.2.2.1 _ hlink) (fun _ h9 => h9) hfin hde hn hfit hlen hd (fun H1 locs1 hP1 hD1 hS1 => kk H1 locs1 ls (by rw [hX] at hP1; exact hP1) (by rw [hX] at hD1; exact hD1) hS1 hl)
theorem gl_new {C : String} {T : u_T} {N ci idx : Nat} {fs : List Value} {w' : Nat → va_W} (o : OKi κ D ca A nL cc own rm) (hin : ∀ w ∈ u_ws C T N, w ∈ xw_ok) (ty0 : Nat → FieldType) (hty : ∀ k, k < N → parseFieldDescriptor (T k).2.2.1 = some (ty0 k)) (hl1 : Cond.classLink own idx C ∈ xw_ok) (hl2 : Cond.instantiable C N ∈ xw_ok) (hl3 : Cond.initialized C ∈ xw_ok) (hc : classes[ci]? = some (C, T, N)) (hfs : ∀ j, j < N → defaultValue (ty0 j) = vp_V fs j) (hk1 : k.1 + 1 ≤ rm.cells) (hk2 : k.2 + N ≤ rm.slots) (hw : ∀ q, ws ++ [(q, .inr (ci, fs))] = w' q) (hd : decode cc pc = .ok (.new idx, 3))
    (kk : ∀ q, (kS κ).heap.size ≤ q → GL κ D A nL (k.1 + 1, k.2 + N) Q (w' q) (pc + 3) lv (.ref q :: st)) : GL κ D A nL k Q ws pc lv st := by
  intro H locs ls hP hD hS hl
  obtain ⟨hx, hb, hml, hown, hts, hK, hA, hlocks, hR⟩ := o
  have hKn := hK.1.1 ci _ hc
  refine W.newcK hx hb hown (hts _ hl1) (hts _ hl2) (hts _ hl3) rfl hd (by rw [hR]; exact hk1) (by rw [hR]; exact hk2) hKn.2.1 rfl fun H1 kC hkC e1 z1 o1 => ?_
  have hk : ∀ (k : Nat) (x : Nat × va_E), ws[k]? = some x → H1[x.1]? = H[x.1]? := fun k x hx => o1 x.1 ((hP k x hx).lt)
  refine kk H.size hS.1 H1 locs ls ?_ ?_ ⟨Nat.le_trans hS.1 (by omega), fun x h1 h2 => (o1 x (Nat.lt_of_lt_of_le h1 hS.1)).trans (hS.2.1 x h1 h2), hS.2.2⟩ hl
  · rw [← hw]
    refine (hP.kept hk).app (fun k x hx => ?_)
    have hz : k < 1 := (List.getElem?_eq_some_iff.mp hx).1
    rw [show k = 0 by omega] at hx
    cases hx
    exact ⟨_, hc, (u_born ty0 hts hin hKn hkC e1 hty).to hfs⟩
  · rw [← hw]; exact hD.push hP rfl (hA _ hS.1)
end glrows
theorem xra_int (U : State) (c : ClassId) (h : va_RA U c .int) : U.vm.findClass ("[" ++ FieldType.int.toString) = some c := h
theorem xra_byte (U : State) (c : ClassId) (h : va_RA U c .byte) : U.vm.findClass ("[" ++ FieldType.byte.toString) = some c := h
theorem xra_boolean (U : State) (c : ClassId) (h : va_RA U c .boolean) : U.vm.findClass ("[" ++ FieldType.boolean.toString) = some c := h
theorem xra_long (U : State) (c : ClassId) (h : va_RA U c .long) : U.vm.findClass ("[" ++ FieldType.long.toString) = some c := h
/-- a constructor's contract: from the cells w0 h0, with Z of the cells behind it -/
def CTI (l : Launch) (D : va_G) (ca : xCa) (y : MethodName) (cw : Cond) (rm : Room) (h0 : Nat) (w0 : va_W) (Z : va_W → Prop) : Prop :=
  ∀ sz : Nat, Met l y (cw :: xw_ok) rm (va_Pc [.ref h0] (fun U => U.heap.size = sz ∧ va_P D classes w0 U.heap ∧ va_K D classes (xTy ca) U ∧ xG U)) (fun _ st o t => (∃ w : va_W, o = .returned none ∧ Z w ∧ va_P D classes w t.heap ∧ va_D (fun q => q = h0 ∨ sz ≤ q) w) ∧ va_F (fun q => q = h0 ∨ sz ≤ q) st t) rm.cells rm.slots (fun q => q = h0 ∨ sz ≤ q)
abbrev xMI (κ : Cx) (D : va_G) (rm : Room) (h0 : Nat) (Z : va_W → Prop) : State → Prop :=
  MQ (kB κ) (fun _ st o t => (∃ w : va_W, o = .returned none ∧ Z w ∧ va_P D classes w t.heap ∧ va_D (fun q => q = h0 ∨ (kS κ).heap.size ≤ q) w) ∧ va_F (fun q => q = h0 ∨ (kS κ).heap.size ≤ q) st t) (kA κ) (kS κ) rm.cells rm.slots (fun q => q = h0 ∨ (kS κ).heap.size ≤ q)
theorem CTI.of {l : Launch} {D : va_G} {ca : xCa} {y : MethodName} {cc : ByteArray} {nL : Nat} {rm : Room} {h0 : Nat} {w0 : va_W} {Z : va_W → Prop} (hy : plainName y.cls = true) (hnm : y.name = "<init>") (hn : 1 ≤ nL) (hw0 : ∀ A : Nat → Prop, A h0 → va_D A w0)
    (body : ∀ κ : Cx, kL κ = l → OKi κ D ca (fun q => q = h0 ∨ (kS κ).heap.size ≤ q) nL cc y.cls rm → (kMe κ).sig.returnType = none → (kMe κ).name = "<init>" → GL κ D (fun q => q = h0 ∨ (kS κ).heap.size ≤ q) nL (0, 0) (xMI κ D rm h0 Z) w0 0 [(0, .ref h0)] []) : CTI l D ca y (.code y cc nL none) rm h0 w0 Z := by
  intro sz
  refine Met.ofW (cc := cc) (maxL := nL) (ret := none) hy rfl ?_
  intro p e s m args below meth c s₁ B hml hv
  obtain ⟨rfl, hsz, hP, hK, hg⟩ := hv
  have hts := atoms_spec (ws := Cond.code y cc nL none :: xw_ok) B.pre
  have hown : s.vm.findClass y.cls = some m.cls := findClass_of_methodNamed B.named
  have hin : meth.name = "<init>" := (name_of_methodNamed B.named B.method).1.trans hnm
  subst hsz
  have hl := lv_entry [.ref h0] (n := nL) hn
  rw [lg_entry_eq]
  generalize (lg_sl [.ref h0] ++ List.replicate (nL - (lg_sl [.ref h0]).length) Slot.unset).toArray = ls at hl ⊢
  exact body (p, l, e, rm, s, m, [Value.ref h0].toArray, below, meth, c) rfl ⟨B.exec, B.bytes, hml, hown, fun w hw => hts w (List.mem_cons_of_mem _ hw), ⟨hK, hg⟩, fun q h => Or.inr h, B.notSynchronized, rfl⟩ B.returns hin s.heap [] ls hP (hw0 _ (Or.inl rfl)) va_S.rf hl
/-- the end of a constructor -/
theorem gl_ret {κ : Cx} {D : va_G} {ca : xCa} {nL : Nat} {k : Nat × Nat} {ws : va_W} {pc : Nat} {lv : List (Nat × Value)} {cc : ByteArray} {own : String} {rm : Room} {h0 : Nat} {Z : va_W → Prop} (o : OKi κ D ca (fun q => q = h0 ∨ (kS κ).heap.size ≤ q) nL cc own rm) (hr : (kMe κ).sig.returnType = none) (hk : k.1 ≤ rm.cells ∧ k.2 ≤ rm.slots) (hz : Z ws) (hd : decode cc pc = .ok (.return_, 1)) : GL κ D (fun q => q = h0 ∨ (kS κ).heap.size ≤ q) nL k (xMI κ D rm h0 Z) ws pc lv [] := by
  intro H locs ls hP hD hS hl
  refine W.widen hk.1 hk.2 ?_
  exact W.vret o.1 o.2.1 hr (fun t ht hW => ⟨⟨ws, rfl, hz, by rw [ht]; exact hP, hD⟩, hS.F ht⟩) hS.2.2 hd o.2.2.2.2.2.2.2.1
/-- a constructor is called -/
theorem gl_callI {κ : Cx} {D : va_G} {ca : xCa} {A : Nat → Prop} {nL : Nat} {k : Nat × Nat} {Q : State → Prop} {ws : va_W} {pc : Nat} {lv : List (Nat × Value)} {st : List Value} {cc : ByteArray} {own : String} {rm : Room} {y : MethodName} {bytes : ByteArray} {maxL idx h1 : Nat} {rmY : Room} {e0 : va_E} {wr : va_W} {Z : va_W → Prop} (o : OKi κ D ca A nL cc own rm)
    (ct : CTI (kL κ) D ca y (.code y bytes maxL none) rmY h1 [(h1, e0)] Z) (mi : xMi y (.code y bytes maxL none) 0) (hnm : y.name = "<init>") (hl1 : Cond.methodLink own idx y ∈ xw_ok) (hl2 : Cond.instanceMethod y ∈ xw_ok)
    (hws : ws = wr ++ [(h1, e0)]) (hro : xRo rm k rmY maxL) (hst : (st.map fun v => v.category).sum ≤ 8) (hd : decode cc pc = .ok (.invokespecial idx, 3))
    (kk : ∀ w : va_W, Z w → GL κ D A nL (k.1 + rmY.cells, k.2 + rmY.slots) Q (wr ++ w) (pc + 3) lv st) : GL κ D A nL k Q ws pc lv (.ref h1 :: st) := by
  subst hws
  intro H locs ls hP hD hS hl T hT XX
  obtain ⟨hx, hb, hml, hown, hts, hK, hA, hlocks, hR⟩ := o
  have hP1 : va_P D classes [(h1, e0)] H := xP_r hP
  have hPr : va_P D classes wr H := xP_l hP
  have hAh : A h1 := hD.2 wr.length (h1, e0) (by simp)
  have hrun := va_runI (p := kP κ) (l := kL κ) (e := kE κ) (R := kR κ) (s := kS κ) (m := kM κ) (args := kA κ) (below := kB κ) (meth := kMe κ) (c := kC κ) (H := H) (locs := locs) (cells := k.1) (slots := k.2) (own := own) (index := idx) (b := h1) (As := []) (rest := st) (g := F0 (kM κ) pc ls (.ref h1 :: st)) ⟨hx, hb, hml, hown, hts⟩ (ct H.size) ⟨callB_of 0 hts (xw_in mi.1) rfl rfl rfl (hts _ mi.2.1) (hts _ hl1) mi.2.2 ⟨by rw [hR]; exact hro.1, by rw [hR]; exact hro.2.1⟩, hnm, hts _ hl2⟩
    ⟨fun a U g mk q => by obtain ⟨q0, q1, qP, qK, qG⟩ := q; exact ⟨q0, q1, qP, va_K.moved (u := U) (U := U.calling g mk a) (Vm.Alike.refl U.vm) qK, xG.same rfl qG⟩, fun U hU hW => ⟨rfl, by rw [hU], by rw [hU]; exact hP1, va_K.moved hW.alike hK.1, xG.warm hW hK.2⟩⟩ rfl rfl hl.1 rfl (lv_room hst) hd ⟨by rw [hR]; exact hro.2.2.1, by rw [hR]; exact hro.2.2.2⟩
  obtain ⟨v, st₀, t, T', L, q0, X', hL, e1, e2, ⟨⟨w, hv, hz, hPw, hDw⟩, hF⟩, stp⟩ := hrun T hT XX
  cases hv
  have hsub : ∀ q : Nat, (q = h1 ∨ H.size ≤ q) → A q := fun q h => h.elim (fun h => h ▸ hAh) (fun h => hA _ (Nat.le_trans hS.1 h))
  have hS2 : va_S A (kS κ).heap t.heap (locs ++ L) := by
    refine ⟨Nat.le_trans hS.1 (by have := hF.1; rw [q0] at this; exact this), fun q hq hn => ?_, fun q hq => ?_⟩
    · have h9 := hF.2 q (by rw [q0]; exact Nat.lt_of_lt_of_le hq hS.1) (fun h => hn (hsub q h))
      rw [h9, q0]; exact hS.2.1 q hq hn
    · rcases List.mem_append.mp hq with h | h
      · exact hS.2.2 q h
      · exact hsub _ (hL q h)
  have hdis : ∀ (i : Nat) (x : Nat × va_E), wr[i]? = some x → ¬ (x.1 = h1 ∨ H.size ≤ x.1) := by
    intro i x hx h
    have hlt := (hPr i x hx).lt
    rcases h with h | h
    · have := hD.1 i wr.length x (h1, e0) (by rw [List.getElem?_append_left (List.getElem?_eq_some_iff.mp hx).1]; exact hx) (by simp) h
      have := (List.getElem?_eq_some_iff.mp hx).1
      omega
    · omega
  have hPr2 : va_P D classes wr t.heap := va_P.kept hPr (fun i x hx => by
    have h9 := hF.2 x.1 (by rw [q0]; exact (hPr i x hx).lt) (hdis i x hx)
    rw [h9, q0])
  have hDr : va_D A wr := ⟨fun i j p q hi hj e => hD.1 i j p q (by rw [List.getElem?_append_left (List.getElem?_eq_some_iff.mp hi).1]; exact hi) (by rw [List.getElem?_append_left (List.getElem?_eq_some_iff.mp hj).1]; exact hj) e, fun i q hi => hD.2 i q (by rw [List.getElem?_append_left (List.getElem?_eq_some_iff.mp hi).1]; exact hi)⟩
  have hDall : va_D A (wr ++ w) := hDr.app (hDw.weaken (fun _ _ _ h => hsub _ h)) (fun i j p q hi hj e => hdis i p hi (e ▸ hDw.2 j q hj))
  obtain ⟨t2, a1, b1⟩ := kk w hz t.heap (locs ++ L) ls (va_P.app hPr2 hPw) hDall hS2 hl T' e1 X'
  exact ⟨t2, stp t2 a1, b1⟩
