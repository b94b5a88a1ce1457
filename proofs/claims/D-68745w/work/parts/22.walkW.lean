/-! the law's wrappers, printed by genl.py -/
def wdO (τ : xT) : xWd (Nat → Int64) := (τ.1, τ.2.1, fun O => [(τ.2.2 90, .inl (τ.2.1 3, 1, .inr (.inl O)))])
def wdL (τ : xT) : xWd ((xF × xF) × ((xF × (Nat → Int64)) × (Nat → Int64))) := xPr (wdX τ) (xPr (wdM τ) (wdO τ))
theorem xSa_L (τ : xT) : xSa (wdL τ) := fun _ _ => rfl
def xRw (n : Nat) : Room := { frames := n + 9, cells := 1, slots := 6, locals := 40 * n + 240 }
theorem xRo_w1 {n m maxL : Nat} (h : m + 1 ≤ n) (h2 : maxL ≤ 21) : xRo (xRw n) (0, 0) (xR m) maxL := ⟨by show m + 1 ≤ n + 9; omega, by show 8 + (maxL + 11) + 40 * m ≤ 40 * n + 240; omega, by show 0 + 0 ≤ 1; decide, by show 0 + 0 ≤ 6; decide⟩
theorem xRo_w2 {n m maxL : Nat} (h : m + 1 ≤ n) (h2 : maxL ≤ 21) : xRo (xRw n) (0, 0) (xRt m) maxL := ⟨by show m + 8 + 1 ≤ n + 9; omega, by show 8 + (maxL + 11) + (40 * m + 200) ≤ 40 * n + 240; omega, Nat.le_refl _, Nat.le_refl _⟩
def zW_i (R : xF × (Nat → Int64)) (Z : Int32 → xF → xF → (Nat → Int64) → Prop) : Option Value → (xF × xF) × ((xF × (Nat → Int64)) × (Nat → Int64)) → Prop := fun v Y => ∃ r : Int32, v = some (.int r) ∧ Y.2.1 = R ∧ Z r Y.1.1 Y.1.2 Y.2.2
theorem zW_i.mk {M : xF} {J : Nat → Int64} {Z : Int32 → xF → xF → (Nat → Int64) → Prop} {r : Int32} {E N : xF} {O : Nat → Int64} (h : Z r E N O) : zW_i (M, J) Z (some (.int r)) ((E, N), ((M, J), O)) := ⟨r, rfl, rfl, h⟩
section kkl
variable {α β γ δ ε : Type} {κ : Cx} {nL : Nat} {k k' : Nat × Nat} {Q : State → Prop} {pc : Nat} {lv : List (Nat × Value)} {st : List Value}
theorem kkl_12_i {ω : xWd ((α × β) × γ)} {C : γ} {Z : Int32 → α → β → Prop} (hk : k' = k) (kk : ∀ r A B, Z r A B → GW κ ω nL k Q ((A, B), C) pc lv (.int r :: st)) : ∀ (v : Option Value) (Y : (α × β) × γ), (Y.2 = C ∧ z12_i Z v Y.1) → GW κ ω nL k' Q Y pc lv (v.toList ++ st) := by
  rintro v ⟨⟨a, b⟩, c⟩ ⟨h0, r, rfl, hz⟩; have h0 : c = C := h0; subst h0; subst hk; exact kk r a b hz
theorem kkl_1_i {ω : xWd ((α × β) × γ)} {B : β} {C : γ} {Z : Int32 → α → Prop} (hk : k' = k) (kk : ∀ r A, Z r A → GW κ ω nL k Q ((A, B), C) pc lv (.int r :: st)) : ∀ (v : Option Value) (Y : (α × β) × γ), (Y.2 = C ∧ z1_i B Z v Y.1) → GW κ ω nL k' Q Y pc lv (v.toList ++ st) := by
  rintro v ⟨⟨a, b⟩, c⟩ ⟨h0, r, rfl, h1, hz⟩; have h0 : c = C := h0; have h1 : b = B := h1; subst h0; subst h1; subst hk; exact kk r a hz
theorem kkl_2_i {ω : xWd ((α × β) × γ)} {A : α} {C : γ} {Z : Int32 → β → Prop} (hk : k' = k) (kk : ∀ r B, Z r B → GW κ ω nL k Q ((A, B), C) pc lv (.int r :: st)) : ∀ (v : Option Value) (Y : (α × β) × γ), (Y.2 = C ∧ z2_i A Z v Y.1) → GW κ ω nL k' Q Y pc lv (v.toList ++ st) := by
  rintro v ⟨⟨a, b⟩, c⟩ ⟨h0, r, rfl, h1, hz⟩; have h0 : c = C := h0; have h1 : a = A := h1; subst h0; subst h1; subst hk; exact kk r b hz
theorem kkl_p_i {ω : xWd ((α × β) × γ)} {A : α} {B : β} {C : γ} {Z : Int32 → Prop} (hk : k' = k) (kk : ∀ r, Z r → GW κ ω nL k Q ((A, B), C) pc lv (.int r :: st)) : ∀ (v : Option Value) (Y : (α × β) × γ), (Y.2 = C ∧ zp_i (A, B) Z v Y.1) → GW κ ω nL k' Q Y pc lv (v.toList ++ st) := by
  rintro v ⟨⟨a, b⟩, c⟩ ⟨h0, r, rfl, h1, hz⟩; have h0 : c = C := h0; cases h1; subst h0; subst hk; exact kk r hz
theorem kkm_12_i {ω : xWd (γ × ((α × β) × δ))} {C : γ} {D : δ} {Z : Int32 → α → β → Prop} (hk : k' = k) (kk : ∀ r A B, Z r A B → GW κ ω nL k Q (C, ((A, B), D)) pc lv (.int r :: st)) : ∀ (v : Option Value) (Y : γ × ((α × β) × δ)), (Y.1 = C ∧ (Y.2.2 = D ∧ z12_i Z v Y.2.1)) → GW κ ω nL k' Q Y pc lv (v.toList ++ st) := by
  rintro v ⟨c, ⟨⟨a, b⟩, d⟩⟩ ⟨h0, h9, r, rfl, hz⟩; have h0 : c = C := h0; have h9 : d = D := h9; subst h0; subst h9; subst hk; exact kk r a b hz
theorem kkm_1_i {ω : xWd (γ × ((α × β) × δ))} {C : γ} {D : δ} {B : β} {Z : Int32 → α → Prop} (hk : k' = k) (kk : ∀ r A, Z r A → GW κ ω nL k Q (C, ((A, B), D)) pc lv (.int r :: st)) : ∀ (v : Option Value) (Y : γ × ((α × β) × δ)), (Y.1 = C ∧ (Y.2.2 = D ∧ z1_i B Z v Y.2.1)) → GW κ ω nL k' Q Y pc lv (v.toList ++ st) := by
  rintro v ⟨c, ⟨⟨a, b⟩, d⟩⟩ ⟨h0, h9, r, rfl, h1, hz⟩; have h0 : c = C := h0; have h9 : d = D := h9; have h1 : b = B := h1; subst h0; subst h9; subst h1; subst hk; exact kk r a hz
theorem kkm_p_i {ω : xWd (γ × ((α × β) × δ))} {C : γ} {D : δ} {A : α} {B : β} {Z : Int32 → Prop} (hk : k' = k) (kk : ∀ r, Z r → GW κ ω nL k Q (C, ((A, B), D)) pc lv (.int r :: st)) : ∀ (v : Option Value) (Y : γ × ((α × β) × δ)), (Y.1 = C ∧ (Y.2.2 = D ∧ zp_i (A, B) Z v Y.2.1)) → GW κ ω nL k' Q Y pc lv (v.toList ++ st) := by
  rintro v ⟨c, ⟨⟨a, b⟩, d⟩⟩ ⟨h0, h9, r, rfl, h1, hz⟩; have h0 : c = C := h0; have h9 : d = D := h9; cases h1; subst h0; subst h9; subst hk; exact kk r hz
theorem kkw_i {ω : xWd ((xF × xF) × ((xF × (Nat → Int64)) × (Nat → Int64)))} {M : xF} {J : Nat → Int64} {Z : Int32 → xF → xF → (Nat → Int64) → Prop} (hk : k' = k) (kk : ∀ r E N O, Z r E N O → GW κ ω nL k Q ((E, N), ((M, J), O)) pc lv (.int r :: st)) : ∀ (v : Option Value) (Y : (xF × xF) × ((xF × (Nat → Int64)) × (Nat → Int64))), zW_i (M, J) Z v Y → GW κ ω nL k' Q Y pc lv (v.toList ++ st) := by
  rintro v ⟨⟨a, b⟩, ⟨c, d⟩⟩ ⟨r, rfl, h1, hz⟩; have h1 : c = (M, J) := h1; subst h1; subst hk; exact kk r a b d hz
end kkl
def w_L_gate (E N : xF) (O : Nat → Int64) (x1 : Int32) (Z : Int32 → xF → xF → (Nat → Int64) → Prop) : Prop := (w_X_gate E N x1 (fun r E_1 => Z 0 E_1 N (vp_updL O 0 r.toInt64))) ∨ (t_X_gate E N x1 (fun kd => (kd = 0 ∧ Z 1 E N O)))
theorem wk_L_gate {κ : Cx} {τ : xT} {E N M : xF} {J O : Nat → Int64} {x1 : Int32} {Z : Int32 → xF → xF → (Nat → Int64) → Prop} (o : OKc κ (wdL τ) 4 b_L_gate "StateExplorerLaw" (some .int) (xRw 1)) (t : OKt κ (wdL τ) ((E, N), ((M, J), O))) (hnc : NC (kS κ)) (hex : (kC κ).exceptionTable.toList.map (fun h => (h.startPc, h.endPc, h.handlerPc, h.catchType)) = [(0, 9, 12, 13)]) (htr : ∀ e : Env, (kL κ).admits e → e.platform.stackTraces = false) (h : w_L_gate E N O x1 Z) : GW κ (wdL τ) 4 (0, 0) (xMQ κ (wdL τ) (xRw 1) (zW_i (M, J) Z)) ((E, N), ((M, J), O)) 0 [(0, .ref (τ.2.2 30)), (1, .int x1), (2, .ref (τ.2.2 90))] [] := by
  unfold w_L_gate at h
  refine gw_aload_n (pc := 0) o d_L_gate_0 rfl 2 rfl ?_
  refine gw_iconst (pc := 1) (v := (0 : Int32)) o d_L_gate_1 (by decide) ?_
  refine gw_aload_n (pc := 2) o d_L_gate_2 rfl 0 rfl ?_
  refine gw_iload_n (pc := 3) o d_L_gate_3 rfl 1 rfl ?_
  rcases h with h | h
  · refine gw_callV (pc := 4) (b := τ.2.2 30) (As := [.int x1]) (st := [.int (0 : Int32), .ref (τ.2.2 90)]) o (CT.l1 (ct_X_gate o.hD.l h) o.hD) mi_X_gate q_336 q_337 q_338 0 rfl rfl (xRo_w1 (by decide) (by decide)) rfl rfl (Nat.le_of_ble_eq_true rfl) d_L_gate_4 (kkl_1_i rfl (fun r E_1 h => ?_))
    refine gw_i2l (pc := 7) o d_L_gate_7 ?_
    refine gw_last (pc := 8) (X' := ((E_1, N), ((M, J), vp_updL O 0 r.toInt64))) o 46 rfl (by unfold vp_in; decide) rfl d_L_gate_8 ?_
    refine gw_goto (pc := 9) (tgt := 15) o d_L_gate_9 (by decide) ?_
    refine gw_iconst (pc := 15) (v := (0 : Int32)) o d_L_gate_15 (by decide) ?_
    exact gw_iret (pc := 16) o ⟨by decide, by decide⟩ (zW_i.mk h) d_L_gate_16
  · refine gw_catchV (pc := 4) (b := τ.2.2 30) (As := [.int x1]) (st := [.int (0 : Int32), .ref (τ.2.2 90)]) o t hnc hex (CTT.l1 (tt_X_gate o.hD.l htr h) o.hD) mi_X_gate q_336 q_337 q_338 0 rfl rfl (xRo_w2 (by decide) (by decide)) rfl rfl (Nat.le_of_ble_eq_true rfl) d_L_gate_4 (fun kd hT hkd => ?_)
    obtain ⟨rfl, h⟩ := hT
    refine ⟨12, Or.inl ⟨_, _, _, _, rfl, by decide, by decide, by decide, q_335⟩, fun a => ?_⟩
    refine gw_astore_n (pc := 12) (lv' := [(3, .ref a), (0, .ref (τ.2.2 30)), (1, .int x1), (2, .ref (τ.2.2 90))]) o d_L_gate_12 rfl (by decide) rfl ?_
    refine gw_iconst (pc := 13) (v := (1 : Int32)) o d_L_gate_13 (by decide) ?_
    exact gw_iret (pc := 14) o ⟨by decide, by decide⟩ (zW_i.mk h) d_L_gate_14
theorem ct_L_gate {l : Launch} {τ : xT} {E N M : xF} {J O : Nat → Int64} {x1 : Int32} {Z : Int32 → xF → xF → (Nat → Int64) → Prop} (hD : xD (wdL τ)) (htr : ∀ e : Env, l.admits e → e.platform.stackTraces = false) (h : w_L_gate E N O x1 Z) : CTW l (wdL τ) y_L_gate (.codeWith y_L_gate b_L_gate 4 (some .int) [(0, 9, 12, 13)]) (xRw 1) [.ref (τ.2.2 30), .int x1, .ref (τ.2.2 90)] ((E, N), ((M, J), O)) (zW_i (M, J) Z) := CTW.of (by decide) (Nat.le_of_ble_eq_true rfl) hD (xSa_L τ) htr (fun κ hl ha o t hnc hex => wk_L_gate o t hnc hex (hl ▸ htr) h)
theorem mi_L_gate : xMiW y_L_gate (.codeWith y_L_gate b_L_gate 4 (some .int) [(0, 9, 12, 13)]) 3 := ⟨xw_mem (xt2 (List.mem_of_getElem? (i := 94) rfl)) rfl, q_0, by decide, by decide, by decide +kernel⟩
def w_L_feed (E N : xF) (O : Nat → Int64) (x1 : Int32) (x2 : Int32) (x3 : Int32) (Z : Int32 → xF → xF → (Nat → Int64) → Prop) : Prop := (w_X_feed E N x1 x2 x3 (fun r E_1 => Z 0 E_1 N (vp_updL O 0 r.toInt64))) ∨ (t_X_feed E N x1 x2 x3 (fun kd => (kd = 1 ∧ Z 1 E N O) ∨ (kd = 2 ∧ Z 2 E N O)))
theorem wk_L_feed {κ : Cx} {τ : xT} {E N M : xF} {J O : Nat → Int64} {x1 : Int32} {x2 : Int32} {x3 : Int32} {Z : Int32 → xF → xF → (Nat → Int64) → Prop} (o : OKc κ (wdL τ) 6 b_L_feed "StateExplorerLaw" (some .int) (xRw 3)) (t : OKt κ (wdL τ) ((E, N), ((M, J), O))) (hnc : NC (kS κ)) (hex : (kC κ).exceptionTable.toList.map (fun h => (h.startPc, h.endPc, h.handlerPc, h.catchType)) = [(0, 12, 15, 19), (0, 12, 19, 21)]) (htr : ∀ e : Env, (kL κ).admits e → e.platform.stackTraces = false) (h : w_L_feed E N O x1 x2 x3 Z) : GW κ (wdL τ) 6 (0, 0) (xMQ κ (wdL τ) (xRw 3) (zW_i (M, J) Z)) ((E, N), ((M, J), O)) 0 [(0, .ref (τ.2.2 30)), (1, .int x1), (2, .int x2), (3, .int x3), (4, .ref (τ.2.2 90))] [] := by
  unfold w_L_feed at h
  refine gw_aload (pc := 0) o d_L_feed_0 4 rfl ?_
  refine gw_iconst (pc := 2) (v := (0 : Int32)) o d_L_feed_2 (by decide) ?_
  refine gw_aload_n (pc := 3) o d_L_feed_3 rfl 0 rfl ?_
  refine gw_iload_n (pc := 4) o d_L_feed_4 rfl 1 rfl ?_
  refine gw_iload_n (pc := 5) o d_L_feed_5 rfl 2 rfl ?_
  refine gw_iload_n (pc := 6) o d_L_feed_6 rfl 3 rfl ?_
  rcases h with h | h
  · refine gw_callV (pc := 7) (b := τ.2.2 30) (As := [.int x1, .int x2, .int x3]) (st := [.int (0 : Int32), .ref (τ.2.2 90)]) o (CT.l1 (ct_X_feed o.hD.l h) o.hD) mi_X_feed q_408 q_409 q_410 0 rfl rfl (xRo_w1 (by decide) (by decide)) rfl rfl (Nat.le_of_ble_eq_true rfl) d_L_feed_7 (kkl_1_i rfl (fun r E_1 h => ?_))
    refine gw_i2l (pc := 10) o d_L_feed_10 ?_
    refine gw_last (pc := 11) (X' := ((E_1, N), ((M, J), vp_updL O 0 r.toInt64))) o 46 rfl (by unfold vp_in; decide) rfl d_L_feed_11 ?_
    refine gw_goto (pc := 12) (tgt := 23) o d_L_feed_12 (by decide) ?_
    refine gw_iconst (pc := 23) (v := (0 : Int32)) o d_L_feed_23 (by decide) ?_
    exact gw_iret (pc := 24) o ⟨by decide, by decide⟩ (zW_i.mk h) d_L_feed_24
  · refine gw_catchV (pc := 7) (b := τ.2.2 30) (As := [.int x1, .int x2, .int x3]) (st := [.int (0 : Int32), .ref (τ.2.2 90)]) o t hnc hex (CTT.l1 (tt_X_feed o.hD.l htr h) o.hD) mi_X_feed q_408 q_409 q_410 0 rfl rfl (xRo_w2 (by decide) (by decide)) rfl rfl (Nat.le_of_ble_eq_true rfl) d_L_feed_7 (fun kd hT hkd => ?_)
    rcases hT with ⟨rfl, h⟩ | ⟨rfl, h⟩
    · refine ⟨15, Or.inl ⟨_, _, _, _, rfl, by decide, by decide, by decide, q_406⟩, fun a => ?_⟩
      refine gw_astore (pc := 15) (lv' := [(5, .ref a), (0, .ref (τ.2.2 30)), (1, .int x1), (2, .int x2), (3, .int x3), (4, .ref (τ.2.2 90))]) o d_L_feed_15 (by decide) rfl ?_
      refine gw_iconst (pc := 17) (v := (1 : Int32)) o d_L_feed_17 (by decide) ?_
      exact gw_iret (pc := 18) o ⟨by decide, by decide⟩ (zW_i.mk h) d_L_feed_18
    · refine ⟨19, Or.inr ⟨_, _, _, _, _, _, _, 1, _, rfl, by decide, by decide, by decide, by decide, by decide, q_406, by decide, by decide, by decide, q_407⟩, fun a => ?_⟩
      refine gw_astore (pc := 19) (lv' := [(5, .ref a), (0, .ref (τ.2.2 30)), (1, .int x1), (2, .int x2), (3, .int x3), (4, .ref (τ.2.2 90))]) o d_L_feed_19 (by decide) rfl ?_
      refine gw_iconst (pc := 21) (v := (2 : Int32)) o d_L_feed_21 (by decide) ?_
      exact gw_iret (pc := 22) o ⟨by decide, by decide⟩ (zW_i.mk h) d_L_feed_22
theorem ct_L_feed {l : Launch} {τ : xT} {E N M : xF} {J O : Nat → Int64} {x1 : Int32} {x2 : Int32} {x3 : Int32} {Z : Int32 → xF → xF → (Nat → Int64) → Prop} (hD : xD (wdL τ)) (htr : ∀ e : Env, l.admits e → e.platform.stackTraces = false) (h : w_L_feed E N O x1 x2 x3 Z) : CTW l (wdL τ) y_L_feed (.codeWith y_L_feed b_L_feed 6 (some .int) [(0, 12, 15, 19), (0, 12, 19, 21)]) (xRw 3) [.ref (τ.2.2 30), .int x1, .int x2, .int x3, .ref (τ.2.2 90)] ((E, N), ((M, J), O)) (zW_i (M, J) Z) := CTW.of (by decide) (Nat.le_of_ble_eq_true rfl) hD (xSa_L τ) htr (fun κ hl ha o t hnc hex => wk_L_feed o t hnc hex (hl ▸ htr) h)
theorem mi_L_feed : xMiW y_L_feed (.codeWith y_L_feed b_L_feed 6 (some .int) [(0, 12, 15, 19), (0, 12, 19, 21)]) 5 := ⟨xw_mem (xt2 (List.mem_of_getElem? (i := 165) rfl)) rfl, q_0, by decide, by decide, by decide +kernel⟩
def w_L_output (E N : xF) (O : Nat → Int64) (x1 : Int32) (Z : Int32 → xF → xF → (Nat → Int64) → Prop) : Prop := (w_X_output E N x1 (fun r E_1 => Z 0 E_1 N (vp_updL O 0 r.toInt64))) ∨ (t_X_output E N x1 (fun kd => (kd = 1 ∧ Z 1 E N O)))
theorem wk_L_output {κ : Cx} {τ : xT} {E N M : xF} {J O : Nat → Int64} {x1 : Int32} {Z : Int32 → xF → xF → (Nat → Int64) → Prop} (o : OKc κ (wdL τ) 4 b_L_output "StateExplorerLaw" (some .int) (xRw 3)) (t : OKt κ (wdL τ) ((E, N), ((M, J), O))) (hnc : NC (kS κ)) (hex : (kC κ).exceptionTable.toList.map (fun h => (h.startPc, h.endPc, h.handlerPc, h.catchType)) = [(0, 9, 12, 19)]) (htr : ∀ e : Env, (kL κ).admits e → e.platform.stackTraces = false) (h : w_L_output E N O x1 Z) : GW κ (wdL τ) 4 (0, 0) (xMQ κ (wdL τ) (xRw 3) (zW_i (M, J) Z)) ((E, N), ((M, J), O)) 0 [(0, .ref (τ.2.2 30)), (1, .int x1), (2, .ref (τ.2.2 90))] [] := by
  unfold w_L_output at h
  refine gw_aload_n (pc := 0) o d_L_output_0 rfl 2 rfl ?_
  refine gw_iconst (pc := 1) (v := (0 : Int32)) o d_L_output_1 (by decide) ?_
  refine gw_aload_n (pc := 2) o d_L_output_2 rfl 0 rfl ?_
  refine gw_iload_n (pc := 3) o d_L_output_3 rfl 1 rfl ?_
  rcases h with h | h
  · refine gw_callV (pc := 4) (b := τ.2.2 30) (As := [.int x1]) (st := [.int (0 : Int32), .ref (τ.2.2 90)]) o (CT.l1 (ct_X_output o.hD.l h) o.hD) mi_X_output q_456 q_457 q_458 0 rfl rfl (xRo_w1 (by decide) (by decide)) rfl rfl (Nat.le_of_ble_eq_true rfl) d_L_output_4 (kkl_1_i rfl (fun r E_1 h => ?_))
    refine gw_i2l (pc := 7) o d_L_output_7 ?_
    refine gw_last (pc := 8) (X' := ((E_1, N), ((M, J), vp_updL O 0 r.toInt64))) o 46 rfl (by unfold vp_in; decide) rfl d_L_output_8 ?_
    refine gw_goto (pc := 9) (tgt := 15) o d_L_output_9 (by decide) ?_
    refine gw_iconst (pc := 15) (v := (0 : Int32)) o d_L_output_15 (by decide) ?_
    exact gw_iret (pc := 16) o ⟨by decide, by decide⟩ (zW_i.mk h) d_L_output_16
  · refine gw_catchV (pc := 4) (b := τ.2.2 30) (As := [.int x1]) (st := [.int (0 : Int32), .ref (τ.2.2 90)]) o t hnc hex (CTT.l1 (tt_X_output o.hD.l htr h) o.hD) mi_X_output q_456 q_457 q_458 0 rfl rfl (xRo_w2 (by decide) (by decide)) rfl rfl (Nat.le_of_ble_eq_true rfl) d_L_output_4 (fun kd hT hkd => ?_)
    obtain ⟨rfl, h⟩ := hT
    refine ⟨12, Or.inl ⟨_, _, _, _, rfl, by decide, by decide, by decide, q_406⟩, fun a => ?_⟩
    refine gw_astore_n (pc := 12) (lv' := [(3, .ref a), (0, .ref (τ.2.2 30)), (1, .int x1), (2, .ref (τ.2.2 90))]) o d_L_output_12 rfl (by decide) rfl ?_
    refine gw_iconst (pc := 13) (v := (1 : Int32)) o d_L_output_13 (by decide) ?_
    exact gw_iret (pc := 14) o ⟨by decide, by decide⟩ (zW_i.mk h) d_L_output_14
theorem ct_L_output {l : Launch} {τ : xT} {E N M : xF} {J O : Nat → Int64} {x1 : Int32} {Z : Int32 → xF → xF → (Nat → Int64) → Prop} (hD : xD (wdL τ)) (htr : ∀ e : Env, l.admits e → e.platform.stackTraces = false) (h : w_L_output E N O x1 Z) : CTW l (wdL τ) y_L_output (.codeWith y_L_output b_L_output 4 (some .int) [(0, 9, 12, 19)]) (xRw 3) [.ref (τ.2.2 30), .int x1, .ref (τ.2.2 90)] ((E, N), ((M, J), O)) (zW_i (M, J) Z) := CTW.of (by decide) (Nat.le_of_ble_eq_true rfl) hD (xSa_L τ) htr (fun κ hl ha o t hnc hex => wk_L_output o t hnc hex (hl ▸ htr) h)
theorem mi_L_output : xMiW y_L_output (.codeWith y_L_output b_L_output 4 (some .int) [(0, 9, 12, 19)]) 3 := ⟨xw_mem (xt2 (List.mem_of_getElem? (i := 215) rfl)) rfl, q_0, by decide, by decide, by decide +kernel⟩
def w_L_distance (E N : xF) (O : Nat → Int64) (x1 : Int32) (Z : Int32 → xF → xF → (Nat → Int64) → Prop) : Prop := (w_X_distance E N x1 (fun r => Z 0 E N (vp_updL O 0 r.toInt64))) ∨ (t_X_distance E N x1 (fun kd => (kd = 2 ∧ Z 1 E N O) ∨ (kd = 1 ∧ Z 2 E N O)))
theorem wk_L_distance {κ : Cx} {τ : xT} {E N M : xF} {J O : Nat → Int64} {x1 : Int32} {Z : Int32 → xF → xF → (Nat → Int64) → Prop} (o : OKc κ (wdL τ) 4 b_L_distance "StateExplorerLaw" (some .int) (xRw 3)) (t : OKt κ (wdL τ) ((E, N), ((M, J), O))) (hnc : NC (kS κ)) (hex : (kC κ).exceptionTable.toList.map (fun h => (h.startPc, h.endPc, h.handlerPc, h.catchType)) = [(0, 9, 12, 21), (0, 9, 15, 19)]) (htr : ∀ e : Env, (kL κ).admits e → e.platform.stackTraces = false) (h : w_L_distance E N O x1 Z) : GW κ (wdL τ) 4 (0, 0) (xMQ κ (wdL τ) (xRw 3) (zW_i (M, J) Z)) ((E, N), ((M, J), O)) 0 [(0, .ref (τ.2.2 30)), (1, .int x1), (2, .ref (τ.2.2 90))] [] := by
  unfold w_L_distance at h
  refine gw_aload_n (pc := 0) o d_L_distance_0 rfl 2 rfl ?_
  refine gw_iconst (pc := 1) (v := (0 : Int32)) o d_L_distance_1 (by decide) ?_
  refine gw_aload_n (pc := 2) o d_L_distance_2 rfl 0 rfl ?_
  refine gw_iload_n (pc := 3) o d_L_distance_3 rfl 1 rfl ?_
  rcases h with h | h
  · refine gw_callV (pc := 4) (b := τ.2.2 30) (As := [.int x1]) (st := [.int (0 : Int32), .ref (τ.2.2 90)]) o (CT.l1 (ct_X_distance o.hD.l h) o.hD) mi_X_distance q_463 q_464 q_465 0 rfl rfl (xRo_w1 (by decide) (by decide)) rfl rfl (Nat.le_of_ble_eq_true rfl) d_L_distance_4 (kkl_p_i rfl (fun r h => ?_))
    refine gw_i2l (pc := 7) o d_L_distance_7 ?_
    refine gw_last (pc := 8) (X' := ((E, N), ((M, J), vp_updL O 0 r.toInt64))) o 46 rfl (by unfold vp_in; decide) rfl d_L_distance_8 ?_
    refine gw_goto (pc := 9) (tgt := 18) o d_L_distance_9 (by decide) ?_
    refine gw_iconst (pc := 18) (v := (0 : Int32)) o d_L_distance_18 (by decide) ?_
    exact gw_iret (pc := 19) o ⟨by decide, by decide⟩ (zW_i.mk h) d_L_distance_19
  · refine gw_catchV (pc := 4) (b := τ.2.2 30) (As := [.int x1]) (st := [.int (0 : Int32), .ref (τ.2.2 90)]) o t hnc hex (CTT.l1 (tt_X_distance o.hD.l htr h) o.hD) mi_X_distance q_463 q_464 q_465 0 rfl rfl (xRo_w2 (by decide) (by decide)) rfl rfl (Nat.le_of_ble_eq_true rfl) d_L_distance_4 (fun kd hT hkd => ?_)
    rcases hT with ⟨rfl, h⟩ | ⟨rfl, h⟩
    · refine ⟨12, Or.inl ⟨_, _, _, _, rfl, by decide, by decide, by decide, q_407⟩, fun a => ?_⟩
      refine gw_astore_n (pc := 12) (lv' := [(3, .ref a), (0, .ref (τ.2.2 30)), (1, .int x1), (2, .ref (τ.2.2 90))]) o d_L_distance_12 rfl (by decide) rfl ?_
      refine gw_iconst (pc := 13) (v := (1 : Int32)) o d_L_distance_13 (by decide) ?_
      exact gw_iret (pc := 14) o ⟨by decide, by decide⟩ (zW_i.mk h) d_L_distance_14
    · refine ⟨15, Or.inr ⟨_, _, _, _, _, _, _, 2, _, rfl, by decide, by decide, by decide, by decide, by decide, q_407, by decide, by decide, by decide, q_406⟩, fun a => ?_⟩
      refine gw_astore_n (pc := 15) (lv' := [(3, .ref a), (0, .ref (τ.2.2 30)), (1, .int x1), (2, .ref (τ.2.2 90))]) o d_L_distance_15 rfl (by decide) rfl ?_
      refine gw_iconst (pc := 16) (v := (2 : Int32)) o d_L_distance_16 (by decide) ?_
      exact gw_iret (pc := 17) o ⟨by decide, by decide⟩ (zW_i.mk h) d_L_distance_17
theorem ct_L_distance {l : Launch} {τ : xT} {E N M : xF} {J O : Nat → Int64} {x1 : Int32} {Z : Int32 → xF → xF → (Nat → Int64) → Prop} (hD : xD (wdL τ)) (htr : ∀ e : Env, l.admits e → e.platform.stackTraces = false) (h : w_L_distance E N O x1 Z) : CTW l (wdL τ) y_L_distance (.codeWith y_L_distance b_L_distance 4 (some .int) [(0, 9, 12, 21), (0, 9, 15, 19)]) (xRw 3) [.ref (τ.2.2 30), .int x1, .ref (τ.2.2 90)] ((E, N), ((M, J), O)) (zW_i (M, J) Z) := CTW.of (by decide) (Nat.le_of_ble_eq_true rfl) hD (xSa_L τ) htr (fun κ hl ha o t hnc hex => wk_L_distance o t hnc hex (hl ▸ htr) h)
theorem mi_L_distance : xMiW y_L_distance (.codeWith y_L_distance b_L_distance 4 (some .int) [(0, 9, 12, 21), (0, 9, 15, 19)]) 3 := ⟨xw_mem (xt2 (List.mem_of_getElem? (i := 222) rfl)) rfl, q_0, by decide, by decide, by decide +kernel⟩
def w_L_way (E N : xF) (O : Nat → Int64) (x1 : Int32) (x2 : Int32) (Z : Int32 → xF → xF → (Nat → Int64) → Prop) : Prop := (w_X_way E N x1 x2 (fun r E_1 N_1 => Z 0 E_1 N_1 (vp_updL O 0 r.toInt64))) ∨ (t_X_way E N x1 x2 (fun kd => (kd = 2 ∧ Z 1 E N O) ∨ (kd = 1 ∧ Z 2 E N O)))
theorem wk_L_way {κ : Cx} {τ : xT} {E N M : xF} {J O : Nat → Int64} {x1 : Int32} {x2 : Int32} {Z : Int32 → xF → xF → (Nat → Int64) → Prop} (o : OKc κ (wdL τ) 5 b_L_way "StateExplorerLaw" (some .int) (xRw 39)) (t : OKt κ (wdL τ) ((E, N), ((M, J), O))) (hnc : NC (kS κ)) (hex : (kC κ).exceptionTable.toList.map (fun h => (h.startPc, h.endPc, h.handlerPc, h.catchType)) = [(0, 10, 13, 21), (0, 10, 17, 19)]) (htr : ∀ e : Env, (kL κ).admits e → e.platform.stackTraces = false) (h : w_L_way E N O x1 x2 Z) : GW κ (wdL τ) 5 (0, 0) (xMQ κ (wdL τ) (xRw 39) (zW_i (M, J) Z)) ((E, N), ((M, J), O)) 0 [(0, .ref (τ.2.2 30)), (1, .int x1), (2, .int x2), (3, .ref (τ.2.2 90))] [] := by
  unfold w_L_way at h
  refine gw_aload_n (pc := 0) o d_L_way_0 rfl 3 rfl ?_
  refine gw_iconst (pc := 1) (v := (0 : Int32)) o d_L_way_1 (by decide) ?_
  refine gw_aload_n (pc := 2) o d_L_way_2 rfl 0 rfl ?_
  refine gw_iload_n (pc := 3) o d_L_way_3 rfl 1 rfl ?_
  refine gw_iload_n (pc := 4) o d_L_way_4 rfl 2 rfl ?_
  rcases h with h | h
  · refine gw_callV (pc := 5) (b := τ.2.2 30) (As := [.int x1, .int x2]) (st := [.int (0 : Int32), .ref (τ.2.2 90)]) o (CT.l1 (ct_X_way o.hD.l h) o.hD) mi_X_way q_478 q_479 q_480 0 rfl rfl (xRo_w1 (by decide) (by decide)) rfl rfl (Nat.le_of_ble_eq_true rfl) d_L_way_5 (kkl_12_i rfl (fun r E_1 N_1 h => ?_))
    refine gw_i2l (pc := 8) o d_L_way_8 ?_
    refine gw_last (pc := 9) (X' := ((E_1, N_1), ((M, J), vp_updL O 0 r.toInt64))) o 46 rfl (by unfold vp_in; decide) rfl d_L_way_9 ?_
    refine gw_goto (pc := 10) (tgt := 21) o d_L_way_10 (by decide) ?_
    refine gw_iconst (pc := 21) (v := (0 : Int32)) o d_L_way_21 (by decide) ?_
    exact gw_iret (pc := 22) o ⟨by decide, by decide⟩ (zW_i.mk h) d_L_way_22
  · refine gw_catchV (pc := 5) (b := τ.2.2 30) (As := [.int x1, .int x2]) (st := [.int (0 : Int32), .ref (τ.2.2 90)]) o t hnc hex (CTT.l1 (tt_X_way o.hD.l htr h) o.hD) mi_X_way q_478 q_479 q_480 0 rfl rfl (xRo_w2 (by decide) (by decide)) rfl rfl (Nat.le_of_ble_eq_true rfl) d_L_way_5 (fun kd hT hkd => ?_)
    rcases hT with ⟨rfl, h⟩ | ⟨rfl, h⟩
    · refine ⟨13, Or.inl ⟨_, _, _, _, rfl, by decide, by decide, by decide, q_407⟩, fun a => ?_⟩
      refine gw_astore (pc := 13) (lv' := [(4, .ref a), (0, .ref (τ.2.2 30)), (1, .int x1), (2, .int x2), (3, .ref (τ.2.2 90))]) o d_L_way_13 (by decide) rfl ?_
      refine gw_iconst (pc := 15) (v := (1 : Int32)) o d_L_way_15 (by decide) ?_
      exact gw_iret (pc := 16) o ⟨by decide, by decide⟩ (zW_i.mk h) d_L_way_16
    · refine ⟨17, Or.inr ⟨_, _, _, _, _, _, _, 2, _, rfl, by decide, by decide, by decide, by decide, by decide, q_407, by decide, by decide, by decide, q_406⟩, fun a => ?_⟩
      refine gw_astore (pc := 17) (lv' := [(4, .ref a), (0, .ref (τ.2.2 30)), (1, .int x1), (2, .int x2), (3, .ref (τ.2.2 90))]) o d_L_way_17 (by decide) rfl ?_
      refine gw_iconst (pc := 19) (v := (2 : Int32)) o d_L_way_19 (by decide) ?_
      exact gw_iret (pc := 20) o ⟨by decide, by decide⟩ (zW_i.mk h) d_L_way_20
theorem ct_L_way {l : Launch} {τ : xT} {E N M : xF} {J O : Nat → Int64} {x1 : Int32} {x2 : Int32} {Z : Int32 → xF → xF → (Nat → Int64) → Prop} (hD : xD (wdL τ)) (htr : ∀ e : Env, l.admits e → e.platform.stackTraces = false) (h : w_L_way E N O x1 x2 Z) : CTW l (wdL τ) y_L_way (.codeWith y_L_way b_L_way 5 (some .int) [(0, 10, 13, 21), (0, 10, 17, 19)]) (xRw 39) [.ref (τ.2.2 30), .int x1, .int x2, .ref (τ.2.2 90)] ((E, N), ((M, J), O)) (zW_i (M, J) Z) := CTW.of (by decide) (Nat.le_of_ble_eq_true rfl) hD (xSa_L τ) htr (fun κ hl ha o t hnc hex => wk_L_way o t hnc hex (hl ▸ htr) h)
theorem mi_L_way : xMiW y_L_way (.codeWith y_L_way b_L_way 5 (some .int) [(0, 10, 13, 21), (0, 10, 17, 19)]) 4 := ⟨xw_mem (xt2 (List.mem_of_getElem? (i := 237) rfl)) rfl, q_0, by decide, by decide, by decide +kernel⟩
def w_L_many (E N : xF) (O : Nat → Int64) (x1 : Int32) (Z : Int32 → xF → xF → (Nat → Int64) → Prop) : Prop := (w_X_many E N x1 (fun r => Z 0 E N (vp_updL O 0 r.toInt64))) ∨ (t_X_many E N x1 (fun kd => (kd = 2 ∧ Z 1 E N O)))
theorem wk_L_many {κ : Cx} {τ : xT} {E N M : xF} {J O : Nat → Int64} {x1 : Int32} {Z : Int32 → xF → xF → (Nat → Int64) → Prop} (o : OKc κ (wdL τ) 4 b_L_many "StateExplorerLaw" (some .int) (xRw 20)) (t : OKt κ (wdL τ) ((E, N), ((M, J), O))) (hnc : NC (kS κ)) (hex : (kC κ).exceptionTable.toList.map (fun h => (h.startPc, h.endPc, h.handlerPc, h.catchType)) = [(0, 9, 12, 21)]) (htr : ∀ e : Env, (kL κ).admits e → e.platform.stackTraces = false) (h : w_L_many E N O x1 Z) : GW κ (wdL τ) 4 (0, 0) (xMQ κ (wdL τ) (xRw 20) (zW_i (M, J) Z)) ((E, N), ((M, J), O)) 0 [(0, .ref (τ.2.2 30)), (1, .int x1), (2, .ref (τ.2.2 90))] [] := by
  unfold w_L_many at h
  refine gw_aload_n (pc := 0) o d_L_many_0 rfl 2 rfl ?_
  refine gw_iconst (pc := 1) (v := (0 : Int32)) o d_L_many_1 (by decide) ?_
  refine gw_aload_n (pc := 2) o d_L_many_2 rfl 0 rfl ?_
  refine gw_iload_n (pc := 3) o d_L_many_3 rfl 1 rfl ?_
  rcases h with h | h
  · refine gw_callV (pc := 4) (b := τ.2.2 30) (As := [.int x1]) (st := [.int (0 : Int32), .ref (τ.2.2 90)]) o (CT.l1 (ct_X_many o.hD.l h) o.hD) mi_X_many q_496 q_497 q_498 0 rfl rfl (xRo_w1 (by decide) (by decide)) rfl rfl (Nat.le_of_ble_eq_true rfl) d_L_many_4 (kkl_p_i rfl (fun r h => ?_))
    refine gw_i2l (pc := 7) o d_L_many_7 ?_
    refine gw_last (pc := 8) (X' := ((E, N), ((M, J), vp_updL O 0 r.toInt64))) o 46 rfl (by unfold vp_in; decide) rfl d_L_many_8 ?_
    refine gw_goto (pc := 9) (tgt := 15) o d_L_many_9 (by decide) ?_
    refine gw_iconst (pc := 15) (v := (0 : Int32)) o d_L_many_15 (by decide) ?_
    exact gw_iret (pc := 16) o ⟨by decide, by decide⟩ (zW_i.mk h) d_L_many_16
  · refine gw_catchV (pc := 4) (b := τ.2.2 30) (As := [.int x1]) (st := [.int (0 : Int32), .ref (τ.2.2 90)]) o t hnc hex (CTT.l1 (tt_X_many o.hD.l htr h) o.hD) mi_X_many q_496 q_497 q_498 0 rfl rfl (xRo_w2 (by decide) (by decide)) rfl rfl (Nat.le_of_ble_eq_true rfl) d_L_many_4 (fun kd hT hkd => ?_)
    obtain ⟨rfl, h⟩ := hT
    refine ⟨12, Or.inl ⟨_, _, _, _, rfl, by decide, by decide, by decide, q_407⟩, fun a => ?_⟩
    refine gw_astore_n (pc := 12) (lv' := [(3, .ref a), (0, .ref (τ.2.2 30)), (1, .int x1), (2, .ref (τ.2.2 90))]) o d_L_many_12 rfl (by decide) rfl ?_
    refine gw_iconst (pc := 13) (v := (1 : Int32)) o d_L_many_13 (by decide) ?_
    exact gw_iret (pc := 14) o ⟨by decide, by decide⟩ (zW_i.mk h) d_L_many_14
theorem ct_L_many {l : Launch} {τ : xT} {E N M : xF} {J O : Nat → Int64} {x1 : Int32} {Z : Int32 → xF → xF → (Nat → Int64) → Prop} (hD : xD (wdL τ)) (htr : ∀ e : Env, l.admits e → e.platform.stackTraces = false) (h : w_L_many E N O x1 Z) : CTW l (wdL τ) y_L_many (.codeWith y_L_many b_L_many 4 (some .int) [(0, 9, 12, 21)]) (xRw 20) [.ref (τ.2.2 30), .int x1, .ref (τ.2.2 90)] ((E, N), ((M, J), O)) (zW_i (M, J) Z) := CTW.of (by decide) (Nat.le_of_ble_eq_true rfl) hD (xSa_L τ) htr (fun κ hl ha o t hnc hex => wk_L_many o t hnc hex (hl ▸ htr) h)
theorem mi_L_many : xMiW y_L_many (.codeWith y_L_many b_L_many 4 (some .int) [(0, 9, 12, 21)]) 3 := ⟨xw_mem (xt3 (List.mem_of_getElem? (i := 15) rfl)) rfl, q_0, by decide, by decide, by decide +kernel⟩
def w_L_next (E N : xF) (O : Nat → Int64) (x1 : Int32) (x2 : Int32) (Z : Int32 → xF → xF → (Nat → Int64) → Prop) : Prop := (w_X_next E N x1 x2 (fun r => Z 0 E N (vp_updL O 0 r.toInt64))) ∨ (t_X_next E N x1 x2 (fun kd => (kd = 2 ∧ Z 1 E N O) ∨ (kd = 1 ∧ Z 2 E N O)))
theorem wk_L_next {κ : Cx} {τ : xT} {E N M : xF} {J O : Nat → Int64} {x1 : Int32} {x2 : Int32} {Z : Int32 → xF → xF → (Nat → Int64) → Prop} (o : OKc κ (wdL τ) 5 b_L_next "StateExplorerLaw" (some .int) (xRw 4)) (t : OKt κ (wdL τ) ((E, N), ((M, J), O))) (hnc : NC (kS κ)) (hex : (kC κ).exceptionTable.toList.map (fun h => (h.startPc, h.endPc, h.handlerPc, h.catchType)) = [(0, 10, 13, 21), (0, 10, 17, 19)]) (htr : ∀ e : Env, (kL κ).admits e → e.platform.stackTraces = false) (h : w_L_next E N O x1 x2 Z) : GW κ (wdL τ) 5 (0, 0) (xMQ κ (wdL τ) (xRw 4) (zW_i (M, J) Z)) ((E, N), ((M, J), O)) 0 [(0, .ref (τ.2.2 30)), (1, .int x1), (2, .int x2), (3, .ref (τ.2.2 90))] [] := by
  unfold w_L_next at h
  refine gw_aload_n (pc := 0) o d_L_next_0 rfl 3 rfl ?_
  refine gw_iconst (pc := 1) (v := (0 : Int32)) o d_L_next_1 (by decide) ?_
  refine gw_aload_n (pc := 2) o d_L_next_2 rfl 0 rfl ?_
  refine gw_iload_n (pc := 3) o d_L_next_3 rfl 1 rfl ?_
  refine gw_iload_n (pc := 4) o d_L_next_4 rfl 2 rfl ?_
  rcases h with h | h
  · refine gw_callV (pc := 5) (b := τ.2.2 30) (As := [.int x1, .int x2]) (st := [.int (0 : Int32), .ref (τ.2.2 90)]) o (CT.l1 (ct_X_next o.hD.l h) o.hD) mi_X_next q_503 q_504 q_505 0 rfl rfl (xRo_w1 (by decide) (by decide)) rfl rfl (Nat.le_of_ble_eq_true rfl) d_L_next_5 (kkl_p_i rfl (fun r h => ?_))
    refine gw_i2l (pc := 8) o d_L_next_8 ?_
    refine gw_last (pc := 9) (X' := ((E, N), ((M, J), vp_updL O 0 r.toInt64))) o 46 rfl (by unfold vp_in; decide) rfl d_L_next_9 ?_
    refine gw_goto (pc := 10) (tgt := 21) o d_L_next_10 (by decide) ?_
    refine gw_iconst (pc := 21) (v := (0 : Int32)) o d_L_next_21 (by decide) ?_
    exact gw_iret (pc := 22) o ⟨by decide, by decide⟩ (zW_i.mk h) d_L_next_22
  · refine gw_catchV (pc := 5) (b := τ.2.2 30) (As := [.int x1, .int x2]) (st := [.int (0 : Int32), .ref (τ.2.2 90)]) o t hnc hex (CTT.l1 (tt_X_next o.hD.l htr h) o.hD) mi_X_next q_503 q_504 q_505 0 rfl rfl (xRo_w2 (by decide) (by decide)) rfl rfl (Nat.le_of_ble_eq_true rfl) d_L_next_5 (fun kd hT hkd => ?_)
    rcases hT with ⟨rfl, h⟩ | ⟨rfl, h⟩
    · refine ⟨13, Or.inl ⟨_, _, _, _, rfl, by decide, by decide, by decide, q_407⟩, fun a => ?_⟩
      refine gw_astore (pc := 13) (lv' := [(4, .ref a), (0, .ref (τ.2.2 30)), (1, .int x1), (2, .int x2), (3, .ref (τ.2.2 90))]) o d_L_next_13 (by decide) rfl ?_
      refine gw_iconst (pc := 15) (v := (1 : Int32)) o d_L_next_15 (by decide) ?_
      exact gw_iret (pc := 16) o ⟨by decide, by decide⟩ (zW_i.mk h) d_L_next_16
    · refine ⟨17, Or.inr ⟨_, _, _, _, _, _, _, 2, _, rfl, by decide, by decide, by decide, by decide, by decide, q_407, by decide, by decide, by decide, q_406⟩, fun a => ?_⟩
      refine gw_astore (pc := 17) (lv' := [(4, .ref a), (0, .ref (τ.2.2 30)), (1, .int x1), (2, .int x2), (3, .ref (τ.2.2 90))]) o d_L_next_17 (by decide) rfl ?_
      refine gw_iconst (pc := 19) (v := (2 : Int32)) o d_L_next_19 (by decide) ?_
      exact gw_iret (pc := 20) o ⟨by decide, by decide⟩ (zW_i.mk h) d_L_next_20
theorem ct_L_next {l : Launch} {τ : xT} {E N M : xF} {J O : Nat → Int64} {x1 : Int32} {x2 : Int32} {Z : Int32 → xF → xF → (Nat → Int64) → Prop} (hD : xD (wdL τ)) (htr : ∀ e : Env, l.admits e → e.platform.stackTraces = false) (h : w_L_next E N O x1 x2 Z) : CTW l (wdL τ) y_L_next (.codeWith y_L_next b_L_next 5 (some .int) [(0, 10, 13, 21), (0, 10, 17, 19)]) (xRw 4) [.ref (τ.2.2 30), .int x1, .int x2, .ref (τ.2.2 90)] ((E, N), ((M, J), O)) (zW_i (M, J) Z) := CTW.of (by decide) (Nat.le_of_ble_eq_true rfl) hD (xSa_L τ) htr (fun κ hl ha o t hnc hex => wk_L_next o t hnc hex (hl ▸ htr) h)
theorem mi_L_next : xMiW y_L_next (.codeWith y_L_next b_L_next 5 (some .int) [(0, 10, 13, 21), (0, 10, 17, 19)]) 4 := ⟨xw_mem (xt3 (List.mem_of_getElem? (i := 22) rfl)) rfl, q_0, by decide, by decide, by decide +kernel⟩
def w_L_doubt (E N : xF) (O : Nat → Int64) (x1 : Int32) (Z : Int32 → xF → xF → (Nat → Int64) → Prop) : Prop := (w_X_doubt E N x1 (fun r E_1 N_1 => Z 0 E_1 N_1 (vp_updL O 0 r.toInt64))) ∨ (t_X_doubt E N x1 (fun kd => (kd = 2 ∧ Z 1 E N O) ∨ (kd = 1 ∧ Z 2 E N O)))
theorem wk_L_doubt {κ : Cx} {τ : xT} {E N M : xF} {J O : Nat → Int64} {x1 : Int32} {Z : Int32 → xF → xF → (Nat → Int64) → Prop} (o : OKc κ (wdL τ) 4 b_L_doubt "StateExplorerLaw" (some .int) (xRw 22)) (t : OKt κ (wdL τ) ((E, N), ((M, J), O))) (hnc : NC (kS κ)) (hex : (kC κ).exceptionTable.toList.map (fun h => (h.startPc, h.endPc, h.handlerPc, h.catchType)) = [(0, 9, 12, 21), (0, 9, 15, 19)]) (htr : ∀ e : Env, (kL κ).admits e → e.platform.stackTraces = false) (h : w_L_doubt E N O x1 Z) : GW κ (wdL τ) 4 (0, 0) (xMQ κ (wdL τ) (xRw 22) (zW_i (M, J) Z)) ((E, N), ((M, J), O)) 0 [(0, .ref (τ.2.2 30)), (1, .int x1), (2, .ref (τ.2.2 90))] [] := by
  unfold w_L_doubt at h
  refine gw_aload_n (pc := 0) o d_L_doubt_0 rfl 2 rfl ?_
  refine gw_iconst (pc := 1) (v := (0 : Int32)) o d_L_doubt_1 (by decide) ?_
  refine gw_aload_n (pc := 2) o d_L_doubt_2 rfl 0 rfl ?_
  refine gw_iload_n (pc := 3) o d_L_doubt_3 rfl 1 rfl ?_
  rcases h with h | h
  · refine gw_callV (pc := 4) (b := τ.2.2 30) (As := [.int x1]) (st := [.int (0 : Int32), .ref (τ.2.2 90)]) o (CT.l1 (ct_X_doubt o.hD.l h) o.hD) mi_X_doubt q_510 q_511 q_512 0 rfl rfl (xRo_w1 (by decide) (by decide)) rfl rfl (Nat.le_of_ble_eq_true rfl) d_L_doubt_4 (kkl_12_i rfl (fun r E_1 N_1 h => ?_))
    refine gw_i2l (pc := 7) o d_L_doubt_7 ?_
    refine gw_last (pc := 8) (X' := ((E_1, N_1), ((M, J), vp_updL O 0 r.toInt64))) o 46 rfl (by unfold vp_in; decide) rfl d_L_doubt_8 ?_
    refine gw_goto (pc := 9) (tgt := 18) o d_L_doubt_9 (by decide) ?_
    refine gw_iconst (pc := 18) (v := (0 : Int32)) o d_L_doubt_18 (by decide) ?_
    exact gw_iret (pc := 19) o ⟨by decide, by decide⟩ (zW_i.mk h) d_L_doubt_19
  · refine gw_catchV (pc := 4) (b := τ.2.2 30) (As := [.int x1]) (st := [.int (0 : Int32), .ref (τ.2.2 90)]) o t hnc hex (CTT.l1 (tt_X_doubt o.hD.l htr h) o.hD) mi_X_doubt q_510 q_511 q_512 0 rfl rfl (xRo_w2 (by decide) (by decide)) rfl rfl (Nat.le_of_ble_eq_true rfl) d_L_doubt_4 (fun kd hT hkd => ?_)
    rcases hT with ⟨rfl, h⟩ | ⟨rfl, h⟩
    · refine ⟨12, Or.inl ⟨_, _, _, _, rfl, by decide, by decide, by decide, q_407⟩, fun a => ?_⟩
      refine gw_astore_n (pc := 12) (lv' := [(3, .ref a), (0, .ref (τ.2.2 30)), (1, .int x1), (2, .ref (τ.2.2 90))]) o d_L_doubt_12 rfl (by decide) rfl ?_
      refine gw_iconst (pc := 13) (v := (1 : Int32)) o d_L_doubt_13 (by decide) ?_
      exact gw_iret (pc := 14) o ⟨by decide, by decide⟩ (zW_i.mk h) d_L_doubt_14
    · refine ⟨15, Or.inr ⟨_, _, _, _, _, _, _, 2, _, rfl, by decide, by decide, by decide, by decide, by decide, q_407, by decide, by decide, by decide, q_406⟩, fun a => ?_⟩
      refine gw_astore_n (pc := 15) (lv' := [(3, .ref a), (0, .ref (τ.2.2 30)), (1, .int x1), (2, .ref (τ.2.2 90))]) o d_L_doubt_15 rfl (by decide) rfl ?_
      refine gw_iconst (pc := 16) (v := (2 : Int32)) o d_L_doubt_16 (by decide) ?_
      exact gw_iret (pc := 17) o ⟨by decide, by decide⟩ (zW_i.mk h) d_L_doubt_17
theorem ct_L_doubt {l : Launch} {τ : xT} {E N M : xF} {J O : Nat → Int64} {x1 : Int32} {Z : Int32 → xF → xF → (Nat → Int64) → Prop} (hD : xD (wdL τ)) (htr : ∀ e : Env, l.admits e → e.platform.stackTraces = false) (h : w_L_doubt E N O x1 Z) : CTW l (wdL τ) y_L_doubt (.codeWith y_L_doubt b_L_doubt 4 (some .int) [(0, 9, 12, 21), (0, 9, 15, 19)]) (xRw 22) [.ref (τ.2.2 30), .int x1, .ref (τ.2.2 90)] ((E, N), ((M, J), O)) (zW_i (M, J) Z) := CTW.of (by decide) (Nat.le_of_ble_eq_true rfl) hD (xSa_L τ) htr (fun κ hl ha o t hnc hex => wk_L_doubt o t hnc hex (hl ▸ htr) h)
theorem mi_L_doubt : xMiW y_L_doubt (.codeWith y_L_doubt b_L_doubt 4 (some .int) [(0, 9, 12, 21), (0, 9, 15, 19)]) 3 := ⟨xw_mem (xt3 (List.mem_of_getElem? (i := 29) rfl)) rfl, q_0, by decide, by decide, by decide +kernel⟩
def w_L_always (E N : xF) (O : Nat → Int64) (x1 : Int32) (Z : Int32 → xF → xF → (Nat → Int64) → Prop) : Prop := (w_X_always E N x1 (fun r E_1 N_1 => Z 0 E_1 N_1 (vp_updL O 0 r.toInt64))) ∨ (t_X_always E N x1 (fun kd => (kd = 2 ∧ Z 1 E N O) ∨ (kd = 1 ∧ Z 2 E N O)))
theorem wk_L_always {κ : Cx} {τ : xT} {E N M : xF} {J O : Nat → Int64} {x1 : Int32} {Z : Int32 → xF → xF → (Nat → Int64) → Prop} (o : OKc κ (wdL τ) 4 b_L_always "StateExplorerLaw" (some .int) (xRw 23)) (t : OKt κ (wdL τ) ((E, N), ((M, J), O))) (hnc : NC (kS κ)) (hex : (kC κ).exceptionTable.toList.map (fun h => (h.startPc, h.endPc, h.handlerPc, h.catchType)) = [(0, 9, 12, 21), (0, 9, 15, 19)]) (htr : ∀ e : Env, (kL κ).admits e → e.platform.stackTraces = false) (h : w_L_always E N O x1 Z) : GW κ (wdL τ) 4 (0, 0) (xMQ κ (wdL τ) (xRw 23) (zW_i (M, J) Z)) ((E, N), ((M, J), O)) 0 [(0, .ref (τ.2.2 30)), (1, .int x1), (2, .ref (τ.2.2 90))] [] := by
  unfold w_L_always at h
  refine gw_aload_n (pc := 0) o d_L_always_0 rfl 2 rfl ?_
  refine gw_iconst (pc := 1) (v := (0 : Int32)) o d_L_always_1 (by decide) ?_
  refine gw_aload_n (pc := 2) o d_L_always_2 rfl 0 rfl ?_
  refine gw_iload_n (pc := 3) o d_L_always_3 rfl 1 rfl ?_
  rcases h with h | h
  · refine gw_callV (pc := 4) (b := τ.2.2 30) (As := [.int x1]) (st := [.int (0 : Int32), .ref (τ.2.2 90)]) o (CT.l1 (ct_X_always o.hD.l h) o.hD) mi_X_always q_521 q_522 q_523 0 rfl rfl (xRo_w1 (by decide) (by decide)) rfl rfl (Nat.le_of_ble_eq_true rfl) d_L_always_4 (kkl_12_i rfl (fun r E_1 N_1 h => ?_))
    refine gw_i2l (pc := 7) o d_L_always_7 ?_
    refine gw_last (pc := 8) (X' := ((E_1, N_1), ((M, J), vp_updL O 0 r.toInt64))) o 46 rfl (by unfold vp_in; decide) rfl d_L_always_8 ?_
    refine gw_goto (pc := 9) (tgt := 18) o d_L_always_9 (by decide) ?_
    refine gw_iconst (pc := 18) (v := (0 : Int32)) o d_L_always_18 (by decide) ?_
    exact gw_iret (pc := 19) o ⟨by decide, by decide⟩ (zW_i.mk h) d_L_always_19
  · refine gw_catchV (pc := 4) (b := τ.2.2 30) (As := [.int x1]) (st := [.int (0 : Int32), .ref (τ.2.2 90)]) o t hnc hex (CTT.l1 (tt_X_always o.hD.l htr h) o.hD) mi_X_always q_521 q_522 q_523 0 rfl rfl (xRo_w2 (by decide) (by decide)) rfl rfl (Nat.le_of_ble_eq_true rfl) d_L_always_4 (fun kd hT hkd => ?_)
    rcases hT with ⟨rfl, h⟩ | ⟨rfl, h⟩
    · refine ⟨12, Or.inl ⟨_, _, _, _, rfl, by decide, by decide, by decide, q_407⟩, fun a => ?_⟩
      refine gw_astore_n (pc := 12) (lv' := [(3, .ref a), (0, .ref (τ.2.2 30)), (1, .int x1), (2, .ref (τ.2.2 90))]) o d_L_always_12 rfl (by decide) rfl ?_
      refine gw_iconst (pc := 13) (v := (1 : Int32)) o d_L_always_13 (by decide) ?_
      exact gw_iret (pc := 14) o ⟨by decide, by decide⟩ (zW_i.mk h) d_L_always_14
    · refine ⟨15, Or.inr ⟨_, _, _, _, _, _, _, 2, _, rfl, by decide, by decide, by decide, by decide, by decide, q_407, by decide, by decide, by decide, q_406⟩, fun a => ?_⟩
      refine gw_astore_n (pc := 15) (lv' := [(3, .ref a), (0, .ref (τ.2.2 30)), (1, .int x1), (2, .ref (τ.2.2 90))]) o d_L_always_15 rfl (by decide) rfl ?_
      refine gw_iconst (pc := 16) (v := (2 : Int32)) o d_L_always_16 (by decide) ?_
      exact gw_iret (pc := 17) o ⟨by decide, by decide⟩ (zW_i.mk h) d_L_always_17
theorem ct_L_always {l : Launch} {τ : xT} {E N M : xF} {J O : Nat → Int64} {x1 : Int32} {Z : Int32 → xF → xF → (Nat → Int64) → Prop} (hD : xD (wdL τ)) (htr : ∀ e : Env, l.admits e → e.platform.stackTraces = false) (h : w_L_always E N O x1 Z) : CTW l (wdL τ) y_L_always (.codeWith y_L_always b_L_always 4 (some .int) [(0, 9, 12, 21), (0, 9, 15, 19)]) (xRw 23) [.ref (τ.2.2 30), .int x1, .ref (τ.2.2 90)] ((E, N), ((M, J), O)) (zW_i (M, J) Z) := CTW.of (by decide) (Nat.le_of_ble_eq_true rfl) hD (xSa_L τ) htr (fun κ hl ha o t hnc hex => wk_L_always o t hnc hex (hl ▸ htr) h)
theorem mi_L_always : xMiW y_L_always (.codeWith y_L_always b_L_always 4 (some .int) [(0, 9, 12, 21), (0, 9, 15, 19)]) 3 := ⟨xw_mem (xt3 (List.mem_of_getElem? (i := 40) rfl)) rfl, q_0, by decide, by decide, by decide +kernel⟩
def w_L_isSame (E N : xF) (O : Nat → Int64) (x1 : Int32) (x2 : Int32) (Z : Int32 → xF → xF → (Nat → Int64) → Prop) : Prop := (w_X_isSame E N x1 x2 (fun r E_1 N_1 => (r = 0 → Z 0 E_1 N_1 (vp_updL O 0 0)) ∧ (¬ r = 0 → Z 0 E_1 N_1 (vp_updL O 0 1)))) ∨ (t_X_isSame E N x1 x2 (fun kd => (kd = 2 ∧ Z 1 E N O) ∨ (kd = 1 ∧ Z 2 E N O)))
theorem wk_L_isSame {κ : Cx} {τ : xT} {E N M : xF} {J O : Nat → Int64} {x1 : Int32} {x2 : Int32} {Z : Int32 → xF → xF → (Nat → Int64) → Prop} (o : OKc κ (wdL τ) 5 b_L_isSame "StateExplorerLaw" (some .int) (xRw 23)) (t : OKt κ (wdL τ) ((E, N), ((M, J), O))) (hnc : NC (kS κ)) (hex : (kC κ).exceptionTable.toList.map (fun h => (h.startPc, h.endPc, h.handlerPc, h.catchType)) = [(0, 17, 20, 21), (0, 17, 24, 19)]) (htr : ∀ e : Env, (kL κ).admits e → e.platform.stackTraces = false) (h : w_L_isSame E N O x1 x2 Z) : GW κ (wdL τ) 5 (0, 0) (xMQ κ (wdL τ) (xRw 23) (zW_i (M, J) Z)) ((E, N), ((M, J), O)) 0 [(0, .ref (τ.2.2 30)), (1, .int x1), (2, .int x2), (3, .ref (τ.2.2 90))] [] := by
  unfold w_L_isSame at h
  refine gw_aload_n (pc := 0) o d_L_isSame_0 rfl 3 rfl ?_
  refine gw_iconst (pc := 1) (v := (0 : Int32)) o d_L_isSame_1 (by decide) ?_
  refine gw_aload_n (pc := 2) o d_L_isSame_2 rfl 0 rfl ?_
  refine gw_iload_n (pc := 3) o d_L_isSame_3 rfl 1 rfl ?_
  refine gw_iload_n (pc := 4) o d_L_isSame_4 rfl 2 rfl ?_
  rcases h with h | h
  · refine gw_callV (pc := 5) (b := τ.2.2 30) (As := [.int x1, .int x2]) (st := [.int (0 : Int32), .ref (τ.2.2 90)]) o (CT.l1 (ct_X_isSame o.hD.l h) o.hD) mi_X_isSame q_528 q_529 q_530 0 rfl rfl (xRo_w1 (by decide) (by decide)) rfl rfl (Nat.le_of_ble_eq_true rfl) d_L_isSame_5 (kkl_12_i rfl (fun r E_1 N_1 h => ?_))
    refine gw_if_eq (pc := 8) (tgt := 15) o d_L_isSame_8 (by decide) (fun hc => ?_) (fun hc => ?_)
    · refine gw_lconst (pc := 15) (v := (0 : Int64)) o d_L_isSame_15 (by decide) ?_
      refine gw_last (pc := 16) (X' := ((E_1, N_1), ((M, J), vp_updL O 0 0))) o 46 rfl (by unfold vp_in; decide) rfl d_L_isSame_16 ?_
      refine gw_goto (pc := 17) (tgt := 28) o d_L_isSame_17 (by decide) ?_
      refine gw_iconst (pc := 28) (v := (0 : Int32)) o d_L_isSame_28 (by decide) ?_
      exact gw_iret (pc := 29) o ⟨by decide, by decide⟩ (zW_i.mk (h.1 hc)) d_L_isSame_29
    · refine gw_lconst (pc := 11) (v := (1 : Int64)) o d_L_isSame_11 (by decide) ?_
      refine gw_goto (pc := 12) (tgt := 16) o d_L_isSame_12 (by decide) ?_
      refine gw_last (pc := 16) (X' := ((E_1, N_1), ((M, J), vp_updL O 0 1))) o 46 rfl (by unfold vp_in; decide) rfl d_L_isSame_16 ?_
      refine gw_goto (pc := 17) (tgt := 28) o d_L_isSame_17 (by decide) ?_
      refine gw_iconst (pc := 28) (v := (0 : Int32)) o d_L_isSame_28 (by decide) ?_
      exact gw_iret (pc := 29) o ⟨by decide, by decide⟩ (zW_i.mk (h.2 hc)) d_L_isSame_29
  · refine gw_catchV (pc := 5) (b := τ.2.2 30) (As := [.int x1, .int x2]) (st := [.int (0 : Int32), .ref (τ.2.2 90)]) o t hnc hex (CTT.l1 (tt_X_isSame o.hD.l htr h) o.hD) mi_X_isSame q_528 q_529 q_530 0 rfl rfl (xRo_w2 (by decide) (by decide)) rfl rfl (Nat.le_of_ble_eq_true rfl) d_L_isSame_5 (fun kd hT hkd => ?_)
    rcases hT with ⟨rfl, h⟩ | ⟨rfl, h⟩
    · refine ⟨20, Or.inl ⟨_, _, _, _, rfl, by decide, by decide, by decide, q_407⟩, fun a => ?_⟩
      refine gw_astore (pc := 20) (lv' := [(4, .ref a), (0, .ref (τ.2.2 30)), (1, .int x1), (2, .int x2), (3, .ref (τ.2.2 90))]) o d_L_isSame_20 (by decide) rfl ?_
      refine gw_iconst (pc := 22) (v := (1 : Int32)) o d_L_isSame_22 (by decide) ?_
      exact gw_iret (pc := 23) o ⟨by decide, by decide⟩ (zW_i.mk h) d_L_isSame_23
    · refine ⟨24, Or.inr ⟨_, _, _, _, _, _, _, 2, _, rfl, by decide, by decide, by decide, by decide, by decide, q_407, by decide, by decide, by decide, q_406⟩, fun a => ?_⟩
      refine gw_astore (pc := 24) (lv' := [(4, .ref a), (0, .ref (τ.2.2 30)), (1, .int x1), (2, .int x2), (3, .ref (τ.2.2 90))]) o d_L_isSame_24 (by decide) rfl ?_
      refine gw_iconst (pc := 26) (v := (2 : Int32)) o d_L_isSame_26 (by decide) ?_
      exact gw_iret (pc := 27) o ⟨by decide, by decide⟩ (zW_i.mk h) d_L_isSame_27
theorem ct_L_isSame {l : Launch} {τ : xT} {E N M : xF} {J O : Nat → Int64} {x1 : Int32} {x2 : Int32} {Z : Int32 → xF → xF → (Nat → Int64) → Prop} (hD : xD (wdL τ)) (htr : ∀ e : Env, l.admits e → e.platform.stackTraces = false) (h : w_L_isSame E N O x1 x2 Z) : CTW l (wdL τ) y_L_isSame (.codeWith y_L_isSame b_L_isSame 5 (some .int) [(0, 17, 20, 21), (0, 17, 24, 19)]) (xRw 23) [.ref (τ.2.2 30), .int x1, .int x2, .ref (τ.2.2 90)] ((E, N), ((M, J), O)) (zW_i (M, J) Z) := CTW.of (by decide) (Nat.le_of_ble_eq_true rfl) hD (xSa_L τ) htr (fun κ hl ha o t hnc hex => wk_L_isSame o t hnc hex (hl ▸ htr) h)
theorem mi_L_isSame : xMiW y_L_isSame (.codeWith y_L_isSame b_L_isSame 5 (some .int) [(0, 17, 20, 21), (0, 17, 24, 19)]) 4 := ⟨xw_mem (xt3 (List.mem_of_getElem? (i := 47) rfl)) rfl, q_0, by decide, by decide, by decide +kernel⟩
def w_L_group (E N : xF) (O : Nat → Int64) (x1 : Int32) (Z : Int32 → xF → xF → (Nat → Int64) → Prop) : Prop := (w_X_group E N x1 (fun r => Z 0 E N (vp_updL O 0 r.toInt64))) ∨ (t_X_group E N x1 (fun kd => (kd = 2 ∧ Z 1 E N O) ∨ (kd = 1 ∧ Z 2 E N O)))
theorem wk_L_group {κ : Cx} {τ : xT} {E N M : xF} {J O : Nat → Int64} {x1 : Int32} {Z : Int32 → xF → xF → (Nat → Int64) → Prop} (o : OKc κ (wdL τ) 4 b_L_group "StateExplorerLaw" (some .int) (xRw 3)) (t : OKt κ (wdL τ) ((E, N), ((M, J), O))) (hnc : NC (kS κ)) (hex : (kC κ).exceptionTable.toList.map (fun h => (h.startPc, h.endPc, h.handlerPc, h.catchType)) = [(0, 9, 12, 21), (0, 9, 15, 19)]) (htr : ∀ e : Env, (kL κ).admits e → e.platform.stackTraces = false) (h : w_L_group E N O x1 Z) : GW κ (wdL τ) 4 (0, 0) (xMQ κ (wdL τ) (xRw 3) (zW_i (M, J) Z)) ((E, N), ((M, J), O)) 0 [(0, .ref (τ.2.2 30)), (1, .int x1), (2, .ref (τ.2.2 90))] [] := by
  unfold w_L_group at h
  refine gw_aload_n (pc := 0) o d_L_group_0 rfl 2 rfl ?_
  refine gw_iconst (pc := 1) (v := (0 : Int32)) o d_L_group_1 (by decide) ?_
  refine gw_aload_n (pc := 2) o d_L_group_2 rfl 0 rfl ?_
  refine gw_iload_n (pc := 3) o d_L_group_3 rfl 1 rfl ?_
  rcases h with h | h
  · refine gw_callV (pc := 4) (b := τ.2.2 30) (As := [.int x1]) (st := [.int (0 : Int32), .ref (τ.2.2 90)]) o (CT.l1 (ct_X_group o.hD.l h) o.hD) mi_X_group q_535 q_536 q_537 0 rfl rfl (xRo_w1 (by decide) (by decide)) rfl rfl (Nat.le_of_ble_eq_true rfl) d_L_group_4 (kkl_p_i rfl (fun r h => ?_))
    refine gw_i2l (pc := 7) o d_L_group_7 ?_
    refine gw_last (pc := 8) (X' := ((E, N), ((M, J), vp_updL O 0 r.toInt64))) o 46 rfl (by unfold vp_in; decide) rfl d_L_group_8 ?_
    refine gw_goto (pc := 9) (tgt := 18) o d_L_group_9 (by decide) ?_
    refine gw_iconst (pc := 18) (v := (0 : Int32)) o d_L_group_18 (by decide) ?_
    exact gw_iret (pc := 19) o ⟨by decide, by decide⟩ (zW_i.mk h) d_L_group_19
  · refine gw_catchV (pc := 4) (b := τ.2.2 30) (As := [.int x1]) (st := [.int (0 : Int32), .ref (τ.2.2 90)]) o t hnc hex (CTT.l1 (tt_X_group o.hD.l htr h) o.hD) mi_X_group q_535 q_536 q_537 0 rfl rfl (xRo_w2 (by decide) (by decide)) rfl rfl (Nat.le_of_ble_eq_true rfl) d_L_group_4 (fun kd hT hkd => ?_)
    rcases hT with ⟨rfl, h⟩ | ⟨rfl, h⟩
    · refine ⟨12, Or.inl ⟨_, _, _, _, rfl, by decide, by decide, by decide, q_407⟩, fun a => ?_⟩
      refine gw_astore_n (pc := 12) (lv' := [(3, .ref a), (0, .ref (τ.2.2 30)), (1, .int x1), (2, .ref (τ.2.2 90))]) o d_L_group_12 rfl (by decide) rfl ?_
      refine gw_iconst (pc := 13) (v := (1 : Int32)) o d_L_group_13 (by decide) ?_
      exact gw_iret (pc := 14) o ⟨by decide, by decide⟩ (zW_i.mk h) d_L_group_14
    · refine ⟨15, Or.inr ⟨_, _, _, _, _, _, _, 2, _, rfl, by decide, by decide, by decide, by decide, by decide, q_407, by decide, by decide, by decide, q_406⟩, fun a => ?_⟩
      refine gw_astore_n (pc := 15) (lv' := [(3, .ref a), (0, .ref (τ.2.2 30)), (1, .int x1), (2, .ref (τ.2.2 90))]) o d_L_group_15 rfl (by decide) rfl ?_
      refine gw_iconst (pc := 16) (v := (2 : Int32)) o d_L_group_16 (by decide) ?_
      exact gw_iret (pc := 17) o ⟨by decide, by decide⟩ (zW_i.mk h) d_L_group_17
theorem ct_L_group {l : Launch} {τ : xT} {E N M : xF} {J O : Nat → Int64} {x1 : Int32} {Z : Int32 → xF → xF → (Nat → Int64) → Prop} (hD : xD (wdL τ)) (htr : ∀ e : Env, l.admits e → e.platform.stackTraces = false) (h : w_L_group E N O x1 Z) : CTW l (wdL τ) y_L_group (.codeWith y_L_group b_L_group 4 (some .int) [(0, 9, 12, 21), (0, 9, 15, 19)]) (xRw 3) [.ref (τ.2.2 30), .int x1, .ref (τ.2.2 90)] ((E, N), ((M, J), O)) (zW_i (M, J) Z) := CTW.of (by decide) (Nat.le_of_ble_eq_true rfl) hD (xSa_L τ) htr (fun κ hl ha o t hnc hex => wk_L_group o t hnc hex (hl ▸ htr) h)
theorem mi_L_group : xMiW y_L_group (.codeWith y_L_group b_L_group 4 (some .int) [(0, 9, 12, 21), (0, 9, 15, 19)]) 3 := ⟨xw_mem (xt3 (List.mem_of_getElem? (i := 54) rfl)) rfl, q_0, by decide, by decide, by decide +kernel⟩
