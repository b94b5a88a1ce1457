/-! the law from its entry -/
/-- what holds at the law's entry -/
def lw_At (p : Program) (s : State) (m : MethodId) (meth : Method) (c : Code) (b L : Nat) (xs : Nat → Int32) : Prop :=
  p.tables.exec = Jvm.exec ∧ c.code = code ∧ meth.sig.returnType = ret ∧ c.maxLocals = 7 ∧ s.vm.findClass R_L = some m.cls ∧ (∀ w ∈ lw_tbl, w.before #[Value.ref b] s = true) ∧ va_X b L xs s s.heap ∧ b < s.heap.size ∧ meth.locks = false ∧ (Jvm.Cond.and given_1 narrow_1).before #[Value.ref b] s = true
theorem xarr {args : Array Value} {s : State} {ty : FieldType} (h : (Cond.arrayClass ty).before args s = true) : ∃ c : ClassId, s.vm.findClass ("[" ++ ty.toString) = some c ∧ ArrOfT s c ty := by
  obtain ⟨c, k, comp, h1, h2, h3⟩ := Cond.arrayClass_spec h
  exact ⟨c, h1, fun n z => ⟨fun k h => (by cases h), k, h2, comp, h3⟩⟩
theorem xnot {args : Array Value} {s : State} {A B : String} (h : (Cond.not (.castable A B)).before args s = true) (ca cb : ClassId) (h1 : s.vm.findClass A = some ca) (h2 : s.vm.findClass B = some cb) : s.vm.assignable ca cb = false := by
  have hv := Cond.holds_not_iff.mp h
  simp only [Cond.value, h1, h2] at hv
  exact Option.some.inj hv
theorem xD_L {τ : xT} {A : Nat → Prop} {X : (xF × xF) × ((xF × (Nat → Int64)) × (Nat → Int64))} (h : va_D A (xWf (wdL τ) X)) (Y : (xF × xF) × ((xF × (Nat → Int64)) × (Nat → Int64))) : va_D A (xWf (wdL τ) Y) := by
  refine ⟨fun i j p q hi hj e => ?_, fun i q hi => ?_⟩
  · obtain ⟨e1, h1⟩ := (xSa_L τ).at X (X := Y) (k := i) (q := p.1) (e := p.2) hi
    obtain ⟨e2, h2⟩ := (xSa_L τ).at X (X := Y) (k := j) (q := q.1) (e := q.2) hj
    exact h.1 i j _ _ h1 h2 e
  · obtain ⟨e1, h1⟩ := (xSa_L τ).at X (X := Y) (k := i) (q := q.1) (e := q.2) hi
    exact h.2 i (q.1, e1) h1
theorem q_11 : Cond.classLink "StateExplorerLaw" 8 "StateExplorer" ∈ xw_ok := xw_mem (xt1 (List.mem_of_getElem? (i := 11) rfl)) rfl
theorem q_12 : Cond.instantiable "StateExplorer" 30 ∈ xw_ok := xw_mem (xt1 (List.mem_of_getElem? (i := 12) rfl)) rfl
theorem q_13 : Cond.methodLink "StateExplorerLaw" 52 ⟨"StateExplorer", "<init>", "()V"⟩ ∈ xw_ok := xw_mem (xt1 (List.mem_of_getElem? (i := 13) rfl)) rfl
theorem q_14 : Cond.instanceMethod ⟨"StateExplorer", "<init>", "()V"⟩ ∈ xw_ok := xw_mem (xt1 (List.mem_of_getElem? (i := 14) rfl)) rfl
theorem q_539 : Cond.classLink "StateExplorerLaw" 53 "StateExplorerModel" ∈ xw_ok := xw_mem (xt3 (List.mem_of_getElem? (i := 59) rfl)) rfl
theorem q_540 : Cond.instantiable "StateExplorerModel" 21 ∈ xw_ok := xw_mem (xt3 (List.mem_of_getElem? (i := 60) rfl)) rfl
theorem q_541 : Cond.methodLink "StateExplorerLaw" 55 ⟨"StateExplorerModel", "<init>", "()V"⟩ ∈ xw_ok := xw_mem (xt3 (List.mem_of_getElem? (i := 61) rfl)) rfl
theorem q_542 : Cond.instanceMethod ⟨"StateExplorerModel", "<init>", "()V"⟩ ∈ xw_ok := xw_mem (xt3 (List.mem_of_getElem? (i := 62) rfl)) rfl
set_option maxHeartbeats 4000000 in
set_option maxRecDepth 20000 in
theorem whole_start {p : Program} {e : Env} {s : State} {m : MethodId} {below : List Frame} {meth : Method} {c : Code} (l : Launch) {b L : Nat} {xs : Nat → Int32} (htr : ∀ e : Env, l.admits e → e.platform.stackTraces = false) (hadm : l.admits e) (hL : L ≤ 2048) (C0 : lw_At p s m meth c b L xs) (h : w_N_init (fun N => law_b20 xs L (fun r => r = 1) x0 N x0 (fun _ => 0) (fun _ => 0))) : W p l e room_1 s m #[Value.ref b] below meth c s.heap [] 0 0 (lw_Z below #[Value.ref b] s) (entryFrame m ([Value.ref b] : List Value).toArray 7) := by
  obtain ⟨hx, hb, hr, hml, hown, hts0, hX, hbl, hlocks, hgv⟩ := C0
  have hts : ∀ w ∈ xw_ok, w.before #[Value.ref b] s = true := fun w hw => hts0 w (List.mem_filter.mp hw).1
  obtain ⟨c0, iS0, hKn0⟩ := u_known (C := R_X) (T := F_X) (N := 30) (n := 30) hts0 i_X (hts _ q_12)
  obtain ⟨c1, iS1, hKn1⟩ := u_known (C := R_N) (T := F_N) (N := 14) (n := 14) hts0 i_N (hts _ q_20)
  obtain ⟨c2, iS2, hKn2⟩ := u_known (C := R_M) (T := F_M) (N := 21) (n := 21) hts0 i_M (hts _ q_540)
  obtain ⟨c3, iS3, hKn3⟩ := u_known (C := R_EA) (T := F_EA) (N := 6) (n := 6) hts0 i_EA (hts _ q_341)
  obtain ⟨c4, iS4, hKn4⟩ := u_known (C := R_EB) (T := F_EB) (N := 6) (n := 6) hts0 i_EB (hts _ q_420)
  obtain ⟨c5, iS5, hKn5⟩ := u_known (C := R_ES) (T := F_ES) (N := 6) (n := 6) hts0 i_ES (hts _ q_439)
  obtain ⟨k0, hf0, hA0⟩ := xarr (hts _ q_78)
  obtain ⟨k1, hf1, hA1⟩ := xarr (hts _ q_77)
  obtain ⟨k2, hf2, hA2⟩ := xarr (hts _ q_79)
  obtain ⟨k3, hf3, hA3⟩ := xarr (hts _ q_610)
  obtain ⟨D, hKc⟩ : ∃ D : va_G, ∀ (k : Nat) (q : vw_C), classes[k]? = some q → u_Kn s q.1 q.2.1 q.2.2 (D.1 k) (D.2 k) := by
    refine ⟨(fun k => match k with | 0 => c0 | 1 => c1 | 2 => c2 | 3 => c3 | 4 => c4 | _ => c5, fun k => match k with | 0 => iS0 | 1 => iS1 | 2 => iS2 | 3 => iS3 | 4 => iS4 | _ => iS5), ?_⟩
    intro k q hq
    match k, hq with
    | 0, hq => cases hq; exact hKn0
    | 1, hq => cases hq; exact hKn1
    | 2, hq => cases hq; exact hKn2
    | 3, hq => cases hq; exact hKn3
    | 4, hq => cases hq; exact hKn4
    | 5, hq => cases hq; exact hKn5
    | k + 6, hq => simp [classes] at hq
  obtain ⟨ca, hca⟩ : ∃ ca : xCa, va_K D classes (xTy ca) s := by
    refine ⟨fun k => match k with | 0 => k0 | 1 => k1 | 2 => k2 | _ => k3, hKc, ?_⟩
    intro k q hq
    match k, hq with
    | 0, hq => cases hq; exact ⟨hA0, hf0⟩
    | 1, hq => cases hq; exact ⟨hA1, hf1⟩
    | 2, hq => cases hq; exact ⟨hA2, hf2⟩
    | 3, hq => cases hq; exact ⟨hA3, hf3⟩
    | k + 4, hq => simp [xTy] at hq
  have hG : xG s := ⟨va_Nw.of rfl (hts0 _ (xt1 (List.mem_of_getElem? (i := 34) rfl))), va_Nw.of rfl (hts0 _ (xt1 (List.mem_of_getElem? (i := 36) rfl))), va_Nw.of rfl (hts0 _ (xt2 (List.mem_of_getElem? (i := 45) rfl)))⟩
  have hfl := flat_of_before _ hgv
  have hth : TH s := by
    intro w hw
    simp only [th_ws, List.mem_cons, List.not_mem_nil, or_false] at hw
    rcases hw with rfl | rfl | rfl | rfl | rfl | rfl | rfl | rfl | rfl | rfl
    · exact va_tabs rfl rfl (hts0 _ (xt2 (List.mem_of_getElem? (i := 102) rfl)))
    · exact va_tabs rfl rfl (hts0 _ (xt2 (List.mem_of_getElem? (i := 181) rfl)))
    · exact va_tabs rfl rfl (hts0 _ (xt2 (List.mem_of_getElem? (i := 200) rfl)))
    · exact va_tabs rfl rfl (hts0 _ (xt2 (List.mem_of_getElem? (i := 103) rfl)))
    · exact va_tabs rfl rfl (hts0 _ (xt2 (List.mem_of_getElem? (i := 105) rfl)))
    · exact va_tabs rfl rfl (hts0 _ (xt2 (List.mem_of_getElem? (i := 107) rfl)))
    · exact hts0 _ (xt2 (List.mem_of_getElem? (i := 127) rfl))
    · exact hts0 _ (xt2 (List.mem_of_getElem? (i := 129) rfl))
    · exact hfl (.isRef (.static "java/lang/Throwable" "UNASSIGNED_STACK" "[Ljava/lang/StackTraceElement;")) (by decide +kernel)
    · exact hfl (.isRef (.static "java/lang/Throwable" "SUPPRESSED_SENTINEL" "Ljava/util/List;")) (by decide +kernel)
  have hnc : NC s := by
    intro i j hi hj hij ci cj h1 h2
    rcases (show i = 0 ∨ i = 1 ∨ i = 2 by omega) with rfl | rfl | rfl <;> rcases (show j = 0 ∨ j = 1 ∨ j = 2 by omega) with rfl | rfl | rfl
    · exact absurd rfl hij
    · exact xnot (hfl (.not (.castable (eN 0) (eN 1))) (by decide +kernel)) ci cj h1 h2
    · exact xnot (hfl (.not (.castable (eN 0) (eN 2))) (by decide +kernel)) ci cj h1 h2
    · exact xnot (hfl (.not (.castable (eN 1) (eN 0))) (by decide +kernel)) ci cj h1 h2
    · exact absurd rfl hij
    · exact xnot (hfl (.not (.castable (eN 1) (eN 2))) (by decide +kernel)) ci cj h1 h2
    · exact xnot (hfl (.not (.castable (eN 2) (eN 0))) (by decide +kernel)) ci cj h1 h2
    · exact xnot (hfl (.not (.castable (eN 2) (eN 1))) (by decide +kernel)) ci cj h1 h2
    · exact absurd rfl hij
  have hP0 : va_P D classes [] s.heap := fun k q h => by simp at h
  have hD0 : va_D (fun q : Nat => s.heap.size ≤ q) [] := ⟨fun i j p q h => by simp at h, fun k q h => by simp at h⟩
  have hl := lv_entry ([.ref b]) (n := 7) (Nat.le_of_ble_eq_true rfl)
  rw [lg_entry_eq]
  generalize (lg_sl ([.ref b]) ++ List.replicate (7 - (lg_sl ([.ref b])).length) Slot.unset).toArray = ls at hl ⊢
  have hl : lv_has ls 7 [(0, .ref b)] := hl
  have o : OKi (p, l, e, room_1, s, m, #[Value.ref b], below, meth, c) D ca (fun q : Nat => s.heap.size ≤ q) 7 b_L_law "StateExplorerLaw" room_1 := ⟨hx, hb, hml, hown, hts, ⟨hca, hG⟩, fun q h => h, hlocks, rfl⟩
  suffices G : GL (p, l, e, room_1, s, m, #[Value.ref b], below, meth, c) D (fun q : Nat => s.heap.size ≤ q) 7 (0, 0) (lw_Z below #[Value.ref b] s) [] 0 [(0, .ref b)] [] from G s.heap [] ls hP0 hD0 va_S.rf hl
  refine gl_new (pc := 0) (ci := 0) (fs := [.null, .int 0, .int 0, .int 0, .int 0, .int 0, .null, .null, .null, .null, .null, .null, .null, .int 0, .null, .null, .null, .null, .null, .null, .int 0, .int 0, .int 0, .int 0, .null, .null, .null, .int 0, .null, .null]) (w' := fun q => [(q, .inr (0, [.null, .int 0, .int 0, .int 0, .int 0, .int 0, .null, .null, .null, .null, .null, .null, .null, .int 0, .null, .null, .null, .null, .null, .null, .int 0, .int 0, .int 0, .int 0, .null, .null, .null, .int 0, .null, .null]))]) o ix_X t_X t_X_ok q_11 q_12 q_1 rfl xdf_X (by decide) (by decide) (fun _ => rfl) d_L_law_0 (fun q0 hq0 => ?_)
  refine gl_dup (pc := 3) o d_L_law_3 rfl ?_
  refine gl_callI (pc := 4) (h1 := q0) (wr := []) o (cn_X_init h) mi_X_init rfl q_13 q_14 rfl ⟨by decide, by decide, by decide, by decide⟩ (Nat.le_of_ble_eq_true rfl) d_L_law_4 (fun w hw => ?_)
  obtain ⟨f, N, hf, rfl, hN⟩ := hw
  subst hf
  refine gl_astore_n (pc := 7) (lv' := [(1, .ref (f 30)), (0, .ref b)]) o d_L_law_7 rfl (by decide) rfl ?_
  refine gl_new (pc := 8) (ci := 2) (fs := [.int 0, .int 0, .int 0, .int 0, .int 0, .int 0, .null, .null, .null, .null, .null, .null, .null, .null, .int 0, .null, .null, .null, .null, .null, .null]) (w' := fun q => (wE (D, ca, f) x0 ++ wN (D, ca, f) N) ++ [(q, .inr (2, [.int 0, .int 0, .int 0, .int 0, .int 0, .int 0, .null, .null, .null, .null, .null, .null, .null, .null, .int 0, .null, .null, .null, .null, .null, .null]))]) o ix_M t_M t_M_ok q_539 q_540 q_3 rfl xdf_M (by decide) (by decide) (fun _ => rfl) d_L_law_8 (fun q8 hq8 => ?_)
  refine gl_dup (pc := 11) o d_L_law_11 rfl ?_
  refine gl_callI (pc := 12) (h1 := q8) (wr := wE (D, ca, f) x0 ++ wN (D, ca, f) N) o cn_M_init mi_M_init rfl q_541 q_542 rfl ⟨by decide, by decide, by decide, by decide⟩ (Nat.le_of_ble_eq_true rfl) d_L_law_12 (fun w hw => ?_)
  obtain ⟨f2, hf2, rfl⟩ := hw
  subst hf2
  refine gl_astore_n (pc := 15) (lv' := [(2, .ref (f2 81)), (1, .ref (f 30)), (0, .ref b)]) o d_L_law_15 rfl (by decide) rfl ?_
  refine gl_iconst (pc := 16) (v := (1 : Int32)) o d_L_law_16 (by decide) ?_
  refine gl_newa (pc := 17) (i0 := 3) (N := 1) (a0 := (1, .inr (.inl (fun _ => 0)))) (w' := fun q => (wE (D, ca, f) x0 ++ wN (D, ca, f) N) ++ wM (D, ca, f2) x0 (fun _ => 0) ++ [(q, .inl (ca 3, (1, .inr (.inl (fun _ => 0)))))]) o q_610 rfl rfl xra_long (fun _ => rfl) (by decide) (by decide) (by decide) (by decide) (by decide) (fun _ => rfl) d_L_law_17 (fun q17 hq17 => ?_)
  refine gl_astore_n (pc := 19) (lv' := [(3, .ref q17), (2, .ref (f2 81)), (1, .ref (f 30)), (0, .ref b)]) o d_L_law_19 rfl (by decide) rfl ?_
  intro H locs ls hP hD hS hl
  obtain ⟨τ, hτ⟩ : ∃ τ : xT, τ = (D, ca, fun k => if k < 60 then f k else if k = 90 then q17 else f2 k) := ⟨_, rfl⟩
  have hP : xH (wdL τ) ((x0, N), ((x0, fun _ => 0), fun _ => 0)) H := by rw [hτ]; exact hP
  have hD : va_D (fun q : Nat => s.heap.size ≤ q) (xWf (wdL τ) ((x0, N), ((x0, fun _ => 0), fun _ => 0))) := by rw [hτ]; exact hD
  have hnew : ∀ q, xA (wdL τ) s.heap.size q → s.heap.size ≤ q := fun q h => h.elim (fun ⟨X, k, e, hk⟩ => (xD_L hD X).2 k (q, e) hk) id
  have hbA : ¬ xA (wdL τ) s.heap.size b := fun h => absurd (hnew b h) (Nat.not_le.mpr hbl)
  have hK : xK (wdL τ) s := by rw [hτ]; exact ⟨hca, hG⟩
  have cL : OKL (p, l, e, room_1, s, m, #[Value.ref b], below, meth, c) τ b L xs (fun r => r = 1) := ⟨⟨hx, hb, hml, hown, hts, hK, fun X => (xD_L hD X).weaken (fun _ _ _ _ => trivial), hr, hlocks, rfl⟩, hL, hX, hbl, hbA, ⟨fun a cell hc hs hA => absurd (hnew a hA) (Nat.not_le.mpr (Array.getElem?_eq_some_iff.mp hc).1), hth, htr e hadm, xSa_L τ⟩, hnc, htr, fun r h => h, hnew, rfl⟩
  have g := wk_law_b20 (k := (47, 1572338)) cL (by unfold xBd; decide) hN
  have hl : lv_has ls 7 [(3, .ref (τ.2.2 90)), (2, .ref (τ.2.2 81)), (1, .ref (τ.2.2 30)), (0, .ref b)] := by rw [hτ]; exact hl
  exact gw_sub (lv' := [(0, .ref b), (1, .ref (τ.2.2 30)), (2, .ref (τ.2.2 81)), (3, .ref (τ.2.2 90))]) [3, 2, 1, 0] rfl g H locs ls hP ⟨hS.1, fun q h1 h2 => hS.2.1 q h1 (fun h => h2 (Or.inr h)), fun q hq => Or.inr (hS.2.2 q hq)⟩ hl
