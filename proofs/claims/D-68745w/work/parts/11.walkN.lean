/-! walks, printed by mk.py -/
def X_need_b0 (Z : Prop) (x0 : Int32) : Prop := ((x0 = 0) → (False)) ∧ (¬ (x0 = 0) → (Z))
set_option maxRecDepth 10000 in
theorem wk_X_need_b0 {κ : Cx} {σ : Type} {ω : xWd σ} {X : σ} {Z : Prop} {x0 : Int32} (o : OKc κ ω 1 b_X_need "StateExplorer" none (xR 0)) (h : X_need_b0 Z x0) : GW κ ω 1 (0, 0) (xMQ κ ω (xR 0) (zp_v X Z)) X 0 [(0, .int x0)] [] := by
  unfold X_need_b0 at h
  refine gw_iload_n (pc := 0) o d_X_need_0 rfl 0 rfl ?_
  refine gw_if_ne (pc := 1) (tgt := 12) o d_X_need_1 (by decide) (fun hc => ?_) (fun hc => ?_)
  · have h := h.2 hc
    exact gw_vret (pc := 12) o ⟨Nat.le_refl _, Nat.le_refl _⟩ (zp_v.mk h) d_X_need_12
  · have h := h.1 hc
    exact h.elim
def w_X_need   (x0 : Int32) (Z : Prop) : Prop := X_need_b0  Z x0
theorem ct_X_need {l : Launch} {σ : Type} {ω : xWd σ} {X : σ}  {x0 : Int32} {Z : Prop} (hD : xD ω) (h : w_X_need  x0 Z) : CT l ω y_X_need (.code y_X_need b_X_need 1 none) (xR 0) [.int x0] X (zp_v X Z) := by
  subst_vars
  exact CT.of (by decide) (Nat.le_of_ble_eq_true rfl) hD (fun κ hl ha o => gw_sub (lv' := [(0, .int x0)]) [0] rfl (wk_X_need_b0 o h))
def N_mark_b0 (f : xF → Int32 → (Int32 → xF → Prop) → Prop) (Z : Int32 → xF → Prop) (N : xF) (x1 : Int32) : Prop := ((x1 < (2 : Int32)) → (Z (0 : Int32) N)) ∧ (¬ (x1 < (2 : Int32)) → (vp_in x1 262144 ∧ ((((N 5 x1.toNatClampNeg) = 0) → (vp_in x1 262144 ∧ (∀ N_22 : xF, N_22 = xs N 5 x1.toNatClampNeg (1 : Int32) → (vp_in x1 262144 ∧ (f N_22 (N_22 1 x1.toNatClampNeg) (fun r31 N_31 => vp_in x1 262144 ∧ (f N_31 (N_31 2 x1.toNatClampNeg) (fun r42 N_42 => Z (((1 : Int32) + r31) + r42) N_42)))))))) ∧ (¬ ((N 5 x1.toNatClampNeg) = 0) → (Z (0 : Int32) N)))))
set_option maxRecDepth 10000 in
theorem wk_N_mark_b0 {κ : Cx} {τ : xT} {d : Nat} {f : xF → Int32 → (Int32 → xF → Prop) → Prop} {Z : Int32 → xF → Prop} {N : xF} {x1 : Int32} (o : OKc κ (wdN τ) 2 b_N_mark "StateExplorer$Nodes" (some .int) (xR (0 + d + 1))) (hf : ∀ (N : xF) (x1 : Int32) (Z : Int32 → xF → Prop), f N x1 Z → CT (kL κ) (wdN τ) y_N_mark (.code y_N_mark b_N_mark 2 (some .int)) (xR (0 + d)) [.ref (τ.2.2 54), .int x1] N (zg_i Z)) (h : N_mark_b0 f Z N x1) : GW κ (wdN τ) 2 (0, 0) (xMQ κ (wdN τ) (xR (0 + d + 1)) (zg_i Z)) N 0 [(0, .ref (τ.2.2 54)), (1, .int x1)] [] := by
  unfold N_mark_b0 at h
  refine gw_iload_n (pc := 0) o d_N_mark_0 rfl 1 rfl ?_
  refine gw_iconst (pc := 1) (v := (2 : Int32)) o d_N_mark_1 (by decide) ?_
  refine gw_icmp_lt (pc := 2) (tgt := 14) o d_N_mark_2 (by decide) (fun hc => ?_) (fun hc => ?_)
  · have h := h.1 hc
    refine gw_iconst (pc := 14) (v := (0 : Int32)) o d_N_mark_14 (by decide) ?_
    exact gw_iret (pc := 15) o ⟨Nat.le_refl _, Nat.le_refl _⟩ (zg_i.mk h) d_N_mark_15
  · have h := h.2 hc
    refine gw_aload_n (pc := 5) o d_N_mark_5 rfl 0 rfl ?_
    refine gN_get_marked (pc := 6) o q_39 d_N_mark_6 ?_
    refine gw_iload_n (pc := 9) o d_N_mark_9 rfl 1 rfl ?_
    have hi := h.1
    have h := h.2
    refine gN_ald_marked (pc := 10) o hi d_N_mark_10 ?_
    refine gw_if_eq (pc := 11) (tgt := 16) o d_N_mark_11 (by decide) (fun hc => ?_) (fun hc => ?_)
    · have h := h.1 hc
      refine gw_aload_n (pc := 16) o d_N_mark_16 rfl 0 rfl ?_
      refine gN_get_marked (pc := 17) o q_39 d_N_mark_17 ?_
      refine gw_iload_n (pc := 20) o d_N_mark_20 rfl 1 rfl ?_
      refine gw_iconst (pc := 21) (v := (1 : Int32)) o d_N_mark_21 (by decide) ?_
      have hi := h.1
      have h := h.2
      refine gN_ast_marked (pc := 22) (y := (1 : Int32)) o hi rfl d_N_mark_22 (fun N_22 eN_22 => ?_)
      have h := h N_22 eN_22
      refine gw_iconst (pc := 23) (v := (1 : Int32)) o d_N_mark_23 (by decide) ?_
      refine gw_aload_n (pc := 24) o d_N_mark_24 rfl 0 rfl ?_
      refine gw_aload_n (pc := 25) o d_N_mark_25 rfl 0 rfl ?_
      refine gN_get_lows (pc := 26) o q_33 d_N_mark_26 ?_
      refine gw_iload_n (pc := 29) o d_N_mark_29 rfl 1 rfl ?_
      have hi := h.1
      have h := h.2
      refine gN_ald_lows (pc := 30) o hi d_N_mark_30 ?_
      refine gw_callS (pc := 31) (As := [.ref (τ.2.2 54), .int (N_22 1 x1.toNatClampNeg)]) (st := [.int (1 : Int32)]) o (hf _ _ _ h) mi_N_mark q_209 q_207 (xRo_of (by omega) (by decide)) rfl rfl (Nat.le_of_ble_eq_true rfl) d_N_mark_31 (kk_g_i rfl (fun r31 N_31 h => ?_))
      refine gw_iadd (pc := 34) o d_N_mark_34 ?_
      refine gw_aload_n (pc := 35) o d_N_mark_35 rfl 0 rfl ?_
      refine gw_aload_n (pc := 36) o d_N_mark_36 rfl 0 rfl ?_
      refine gN_get_highs (pc := 37) o q_35 d_N_mark_37 ?_
      refine gw_iload_n (pc := 40) o d_N_mark_40 rfl 1 rfl ?_
      have hi := h.1
      have h := h.2
      refine gN_ald_highs (pc := 41) o hi d_N_mark_41 ?_
      refine gw_callS (pc := 42) (As := [.ref (τ.2.2 54), .int (N_31 2 x1.toNatClampNeg)]) (st := [.int ((1 : Int32) + r31)]) o (hf _ _ _ h) mi_N_mark q_209 q_207 (xRo_of (by omega) (by decide)) rfl rfl (Nat.le_of_ble_eq_true rfl) d_N_mark_42 (kk_g_i rfl (fun r42 N_42 h => ?_))
      refine gw_iadd (pc := 45) o d_N_mark_45 ?_
      exact gw_iret (pc := 46) o ⟨Nat.le_refl _, Nat.le_refl _⟩ (zg_i.mk h) d_N_mark_46
    · have h := h.2 hc
      refine gw_iconst (pc := 14) (v := (0 : Int32)) o d_N_mark_14 (by decide) ?_
      exact gw_iret (pc := 15) o ⟨Nat.le_refl _, Nat.le_refl _⟩ (zg_i.mk h) d_N_mark_15
def w_N_mark : Nat → xF → Int32 → (Int32 → xF → Prop) → Prop
  | 0, _, _, _ => False
  | d + 1, N, x1, Z => N_mark_b0  (w_N_mark d)  Z N x1
theorem ct_N_mark {l : Launch} {τ : xT} (hD : xD (wdN τ)) : ∀ {d : Nat} {N : xF} {x1 : Int32} {Z : Int32 → xF → Prop} (h : w_N_mark d N x1 Z), CT l (wdN τ) y_N_mark (.code y_N_mark b_N_mark 2 (some .int)) (xR (0 + d)) [.ref (τ.2.2 54), .int x1] N (zg_i Z) := by
  intro d
  induction d with
  | zero => intro N x1 Z h; exact h.elim
  | succ d ih =>
    intro N x1 Z h
    exact CT.of (by decide) (Nat.le_of_ble_eq_true rfl) hD (fun κ hl ha o => gw_sub (lv' := [(0, .ref (τ.2.2 54)), (1, .int x1)]) [0, 1] rfl (wk_N_mark_b0 o (fun _ _ _ h => hl ▸ ih h) h))
def N_isTight_b14 (Z : Int32 → Prop) (N : xF) (s0 : Int32) : Prop := (s0 = 0 ∨ s0 = 1) ∧ (Z s0)
set_option maxRecDepth 10000 in
theorem wk_N_isTight_b14 {κ : Cx} {τ : xT} {Z : Int32 → Prop} {N : xF} {s0 : Int32} (o : OKc κ (wdN τ) 1 b_N_isTight "StateExplorer$Nodes" (some .boolean) (xR 0)) (h : N_isTight_b14 Z N s0) : GW κ (wdN τ) 1 (0, 0) (xMQ κ (wdN τ) (xR 0) (zp_i N Z)) N 14 [] [.int s0] := by
  unfold N_isTight_b14 at h
  exact gw_zret (pc := 14) o ⟨Nat.le_refl _, Nat.le_refl _⟩ h.1 (zp_i.mk h.2) d_N_isTight_14
def N_isTight_b0 (Z : Int32 → Prop) (N : xF) : Prop := (((65536 : Int32) ≤ (N 14 8)) → (N_isTight_b14 Z N (0 : Int32))) ∧ (¬ ((65536 : Int32) ≤ (N 14 8)) → (N_isTight_b14 Z N (1 : Int32)))
set_option maxRecDepth 10000 in
theorem wk_N_isTight_b0 {κ : Cx} {τ : xT} {Z : Int32 → Prop} {N : xF} (o : OKc κ (wdN τ) 1 b_N_isTight "StateExplorer$Nodes" (some .boolean) (xR 0)) (h : N_isTight_b0 Z N) : GW κ (wdN τ) 1 (0, 0) (xMQ κ (wdN τ) (xR 0) (zp_i N Z)) N 0 [(0, .ref (τ.2.2 54))] [] := by
  unfold N_isTight_b0 at h
  refine gw_aload_n (pc := 0) o d_N_isTight_0 rfl 0 rfl ?_
  refine gN_get_spare (pc := 1) o q_42 d_N_isTight_1 ?_
  refine gw_ldc (pc := 4) o q_201 d_N_isTight_4 ?_
  refine gw_icmp_ge (pc := 6) (tgt := 13) o d_N_isTight_6 (by decide) (fun hc => ?_) (fun hc => ?_)
  · have h := h.1 hc
    refine gw_iconst (pc := 13) (v := (0 : Int32)) o d_N_isTight_13 (by decide) ?_
    exact gw_sub (lv' := []) [] rfl (wk_N_isTight_b14 o h)
  · have h := h.2 hc
    refine gw_iconst (pc := 9) (v := (1 : Int32)) o d_N_isTight_9 (by decide) ?_
    refine gw_goto (pc := 10) (tgt := 14) o d_N_isTight_10 (by decide) ?_
    exact gw_sub (lv' := []) [] rfl (wk_N_isTight_b14 o h)
def w_N_isTight  (N : xF)  (Z : Int32 → Prop) : Prop := N_isTight_b0  Z N
theorem ct_N_isTight {l : Launch} {τ : xT} {N : xF}  {Z : Int32 → Prop} (hD : xD (wdN τ)) (h : w_N_isTight  N Z) : CT l (wdN τ) y_N_isTight (.code y_N_isTight b_N_isTight 1 (some .boolean)) (xR 0) [.ref (τ.2.2 54)] N (zp_i N Z) := by
  subst_vars
  exact CT.of (by decide) (Nat.le_of_ble_eq_true rfl) hD (fun κ hl ha o => gw_sub (lv' := [(0, .ref (τ.2.2 54))]) [0] rfl (wk_N_isTight_b0 o h))
def N_mixed_b0 (Z : Int32 → Prop) (x0 : Int32) (x1 : Int32) (x2 : Int32) : Prop := ∀ x3_14 : Int32, x3_14 = ((x0 * (625341585 : Int32)) ^^^ (x1 * (1103515245 : Int32))) ^^^ (x2 * (1799596469 : Int32)) → (Z (x3_14 ^^^ ((x3_14.toUInt32 >>> ((15 : Int32).toUInt32 &&& Int32.toUInt32 31)).toInt32)))
set_option maxRecDepth 10000 in
theorem wk_N_mixed_b0 {κ : Cx} {σ : Type} {ω : xWd σ} {X : σ} {Z : Int32 → Prop} {x0 : Int32} {x1 : Int32} {x2 : Int32} (o : OKc κ ω 4 b_N_mixed "StateExplorer$Nodes" (some .int) (xR 0)) (h : N_mixed_b0 Z x0 x1 x2) : GW κ ω 4 (0, 0) (xMQ κ ω (xR 0) (zp_i X Z)) X 0 [(0, .int x0), (1, .int x1), (2, .int x2)] [] := by
  unfold N_mixed_b0 at h
  refine gw_iload_n (pc := 0) o d_N_mixed_0 rfl 0 rfl ?_
  refine gw_ldc (pc := 1) o q_221 d_N_mixed_1 ?_
  refine gw_imul (pc := 3) o d_N_mixed_3 ?_
  refine gw_iload_n (pc := 4) o d_N_mixed_4 rfl 1 rfl ?_
  refine gw_ldc (pc := 5) o q_222 d_N_mixed_5 ?_
  refine gw_imul (pc := 7) o d_N_mixed_7 ?_
  refine gw_ixor (pc := 8) o d_N_mixed_8 ?_
  refine gw_iload_n (pc := 9) o d_N_mixed_9 rfl 2 rfl ?_
  refine gw_ldc (pc := 10) o q_223 d_N_mixed_10 ?_
  refine gw_imul (pc := 12) o d_N_mixed_12 ?_
  refine gw_ixor (pc := 13) o d_N_mixed_13 ?_
  refine gw_topi (fun x3_14 ex3_14 => ?_)
  have h := h x3_14 ex3_14
  refine gw_istore_n (pc := 14) (lv' := [(3, .int x3_14), (0, .int x0), (1, .int x1), (2, .int x2)]) o d_N_mixed_14 rfl (by decide) rfl ?_
  refine gw_iload_n (pc := 15) o d_N_mixed_15 rfl 0 rfl ?_
  refine gw_iload_n (pc := 16) o d_N_mixed_16 rfl 0 rfl ?_
  refine gw_bipush (pc := 17) (v := (15 : Int32)) o d_N_mixed_17 (by decide) ?_
  refine gw_iushr (pc := 19) o d_N_mixed_19 ?_
  refine gw_ixor (pc := 20) o d_N_mixed_20 ?_
  exact gw_iret (pc := 21) o ⟨Nat.le_refl _, Nat.le_refl _⟩ (zp_i.mk h) d_N_mixed_21
def w_N_mixed   (x0 : Int32) (x1 : Int32) (x2 : Int32) (Z : Int32 → Prop) : Prop := N_mixed_b0  Z x0 x1 x2
theorem ct_N_mixed {l : Launch} {σ : Type} {ω : xWd σ} {X : σ}  {x0 : Int32} {x1 : Int32} {x2 : Int32} {Z : Int32 → Prop} (hD : xD ω) (h : w_N_mixed  x0 x1 x2 Z) : CT l ω y_N_mixed (.code y_N_mixed b_N_mixed 4 (some .int)) (xR 0) [.int x0, .int x1, .int x2] X (zp_i X Z) := by
  subst_vars
  exact CT.of (by decide) (Nat.le_of_ble_eq_true rfl) hD (fun κ hl ha o => gw_sub (lv' := [(0, .int x0), (1, .int x1), (2, .int x2)]) [0, 1, 2] rfl (wk_N_mixed_b0 o h))
def N_chain_b0 (Z : Int32 → Prop) (N : xF) (x1 : Int32) (x2 : Int32) (x3 : Int32) : Prop := w_N_mixed x1 x2 x3 (fun r3 => Z (r3 &&& (32767 : Int32)))
set_option maxRecDepth 10000 in
theorem wk_N_chain_b0 {κ : Cx} {τ : xT} {Z : Int32 → Prop} {N : xF} {x1 : Int32} {x2 : Int32} {x3 : Int32} (o : OKc κ (wdN τ) 4 b_N_chain "StateExplorer$Nodes" (some .int) (xR 1)) (h : N_chain_b0 Z N x1 x2 x3) : GW κ (wdN τ) 4 (0, 0) (xMQ κ (wdN τ) (xR 1) (zp_i N Z)) N 0 [(0, .ref (τ.2.2 54)), (1, .int x1), (2, .int x2), (3, .int x3)] [] := by
  unfold N_chain_b0 at h
  refine gw_iload_n (pc := 0) o d_N_chain_0 rfl 1 rfl ?_
  refine gw_iload_n (pc := 1) o d_N_chain_1 rfl 2 rfl ?_
  refine gw_iload_n (pc := 2) o d_N_chain_2 rfl 3 rfl ?_
  refine gw_callS (pc := 3) (As := [.int x1, .int x2, .int x3]) (st := []) o (ct_N_mixed o.hD h) mi_N_mixed q_218 q_219 (xRo_of (by omega) (by decide)) rfl rfl (Nat.le_of_ble_eq_true rfl) d_N_chain_3 (kk_p_i rfl (fun r3 h => ?_))
  refine gw_sipush (pc := 6) (v := (32767 : Int32)) o d_N_chain_6 (by decide) ?_
  refine gw_iand (pc := 9) o d_N_chain_9 ?_
  exact gw_iret (pc := 10) o ⟨Nat.le_refl _, Nat.le_refl _⟩ (zp_i.mk h) d_N_chain_10
def w_N_chain  (N : xF) (x1 : Int32) (x2 : Int32) (x3 : Int32) (Z : Int32 → Prop) : Prop := N_chain_b0  Z N x1 x2 x3
theorem ct_N_chain {l : Launch} {τ : xT} {N : xF} {x1 : Int32} {x2 : Int32} {x3 : Int32} {Z : Int32 → Prop} (hD : xD (wdN τ)) (h : w_N_chain  N x1 x2 x3 Z) : CT l (wdN τ) y_N_chain (.code y_N_chain b_N_chain 4 (some .int)) (xR 1) [.ref (τ.2.2 54), .int x1, .int x2, .int x3] N (zp_i N Z) := by
  subst_vars
  exact CT.of (by decide) (Nat.le_of_ble_eq_true rfl) hD (fun κ hl ha o => gw_sub (lv' := [(0, .ref (τ.2.2 54)), (1, .int x1), (2, .int x2), (3, .int x3)]) [0, 1, 2, 3] rfl (wk_N_chain_b0 o h))
def N_unmark_b2 (Z : xF → Prop) (k2 : Int32 → xF → Prop) (N : xF) (x1 : Int32) : Prop := (((N 14 7) ≤ x1) → (Z N)) ∧ (¬ ((N 14 7) ≤ x1) → (vp_in x1 262144 ∧ (∀ N_16 : xF, N_16 = xs N 5 x1.toNatClampNeg (0 : Int32) → (∀ x1_17 : Int32, x1_17 = x1 + (1 : Int32) → (k2 x1_17 N_16)))))
set_option maxRecDepth 10000 in
theorem wk_N_unmark_b2 {κ : Cx} {τ : xT} {Z : xF → Prop} {k2 : Int32 → xF → Prop} {N : xF} {x1 : Int32} (o : OKc κ (wdN τ) 2 b_N_unmark "StateExplorer$Nodes" none (xR 0)) (hk2 : ∀ (x1 : Int32) (N : xF), k2 x1 N → GW κ (wdN τ) 2 (0, 0) (xMQ κ (wdN τ) (xR 0) (zg_v Z)) N 2 [(0, .ref (τ.2.2 54)), (1, .int x1)] []) (h : N_unmark_b2 Z k2 N x1) : GW κ (wdN τ) 2 (0, 0) (xMQ κ (wdN τ) (xR 0) (zg_v Z)) N 2 [(0, .ref (τ.2.2 54)), (1, .int x1)] [] := by
  unfold N_unmark_b2 at h
  refine gw_iload_n (pc := 2) o d_N_unmark_2 rfl 1 rfl ?_
  refine gw_aload_n (pc := 3) o d_N_unmark_3 rfl 0 rfl ?_
  refine gN_get_used (pc := 4) o q_41 d_N_unmark_4 ?_
  refine gw_icmp_ge (pc := 7) (tgt := 23) o d_N_unmark_7 (by decide) (fun hc => ?_) (fun hc => ?_)
  · have h := h.1 hc
    exact gw_vret (pc := 23) o ⟨Nat.le_refl _, Nat.le_refl _⟩ (zg_v.mk h) d_N_unmark_23
  · have h := h.2 hc
    refine gw_aload_n (pc := 10) o d_N_unmark_10 rfl 0 rfl ?_
    refine gN_get_marked (pc := 11) o q_39 d_N_unmark_11 ?_
    refine gw_iload_n (pc := 14) o d_N_unmark_14 rfl 1 rfl ?_
    refine gw_iconst (pc := 15) (v := (0 : Int32)) o d_N_unmark_15 (by decide) ?_
    have hi := h.1
    have h := h.2
    refine gN_ast_marked (pc := 16) (y := (0 : Int32)) o hi rfl d_N_unmark_16 (fun N_16 eN_16 => ?_)
    have h := h N_16 eN_16
    refine gw_iincN (pc := 17) (c := (1 : Int32)) (lw := fun x1_17 => [(1, .int x1_17), (0, .ref (τ.2.2 54))]) o d_N_unmark_17 (by decide) 1 rfl (by decide) (fun _ => rfl) (fun x1_17 ex1_17 => ?_)
    have h := h x1_17 ex1_17
    refine gw_goto (pc := 20) (tgt := 2) o d_N_unmark_20 (by decide) ?_
    exact gw_sub (lv' := [(0, .ref (τ.2.2 54)), (1, .int x1_17)]) [1, 0] rfl (hk2 _ _ h)
def N_unmark_L2 (Z : xF → Prop) (N : xF) (x1 : Int32) : Prop := LOOP2 (fun k2 x1 N => N_unmark_b2 Z k2 N x1) x1 N
theorem wk_N_unmark_L2 {κ : Cx} {τ : xT} {Z : xF → Prop} {N : xF} {x1 : Int32} (o : OKc κ (wdN τ) 2 b_N_unmark "StateExplorer$Nodes" none (xR 0)) (h : N_unmark_L2 Z N x1) : GW κ (wdN τ) 2 (0, 0) (xMQ κ (wdN τ) (xR 0) (zg_v Z)) N 2 [(0, .ref (τ.2.2 54)), (1, .int x1)] [] := by
  unfold N_unmark_L2 at h
  exact LOOP2.use (G := fun x1 N => GW κ (wdN τ) 2 (0, 0) (xMQ κ (wdN τ) (xR 0) (zg_v Z)) N 2 [(0, .ref (τ.2.2 54)), (1, .int x1)] []) (fun k2 x1 N hk2 h => wk_N_unmark_b2 o hk2 h) h
def N_unmark_b0 (Z : xF → Prop) (N : xF) : Prop := N_unmark_L2 Z N (0 : Int32)
set_option maxRecDepth 10000 in
theorem wk_N_unmark_b0 {κ : Cx} {τ : xT} {Z : xF → Prop} {N : xF} (o : OKc κ (wdN τ) 2 b_N_unmark "StateExplorer$Nodes" none (xR 0)) (h : N_unmark_b0 Z N) : GW κ (wdN τ) 2 (0, 0) (xMQ κ (wdN τ) (xR 0) (zg_v Z)) N 0 [(0, .ref (τ.2.2 54))] [] := by
  unfold N_unmark_b0 at h
  refine gw_iconst (pc := 0) (v := (0 : Int32)) o d_N_unmark_0 (by decide) ?_
  refine gw_istore_n (pc := 1) (lv' := [(1, .int (0 : Int32)), (0, .ref (τ.2.2 54))]) o d_N_unmark_1 rfl (by decide) rfl ?_
  exact gw_sub (lv' := [(0, .ref (τ.2.2 54)), (1, .int (0 : Int32))]) [1, 0] rfl (wk_N_unmark_L2 o h)
def w_N_unmark  (N : xF)  (Z : xF → Prop) : Prop := N_unmark_b0  Z N
theorem ct_N_unmark {l : Launch} {τ : xT} {N : xF}  {Z : xF → Prop} (hD : xD (wdN τ)) (h : w_N_unmark  N Z) : CT l (wdN τ) y_N_unmark (.code y_N_unmark b_N_unmark 2 none) (xR 0) [.ref (τ.2.2 54)] N (zg_v Z) := by
  subst_vars
  exact CT.of (by decide) (Nat.le_of_ble_eq_true rfl) hD (fun κ hl ha o => gw_sub (lv' := [(0, .ref (τ.2.2 54))]) [0] rfl (wk_N_unmark_b0 o h))
def N_forget_b2 (Z : xF → Prop) (k2 : Int32 → xF → Prop) (N : xF) (x1 : Int32) : Prop := (((16384 : Int32) ≤ x1) → (Z N)) ∧ (¬ ((16384 : Int32) ≤ x1) → (vp_in x1 16384 ∧ (∀ N_15 : xF, N_15 = xs N 13 x1.toNatClampNeg (-1 : Int32) → (∀ x1_16 : Int32, x1_16 = x1 + (1 : Int32) → (k2 x1_16 N_15)))))
set_option maxRecDepth 10000 in
theorem wk_N_forget_b2 {κ : Cx} {τ : xT} {Z : xF → Prop} {k2 : Int32 → xF → Prop} {N : xF} {x1 : Int32} (o : OKc κ (wdN τ) 2 b_N_forget "StateExplorer$Nodes" none (xR 0)) (hk2 : ∀ (x1 : Int32) (N : xF), k2 x1 N → GW κ (wdN τ) 2 (0, 0) (xMQ κ (wdN τ) (xR 0) (zg_v Z)) N 2 [(0, .ref (τ.2.2 54)), (1, .int x1)] []) (h : N_forget_b2 Z k2 N x1) : GW κ (wdN τ) 2 (0, 0) (xMQ κ (wdN τ) (xR 0) (zg_v Z)) N 2 [(0, .ref (τ.2.2 54)), (1, .int x1)] [] := by
  unfold N_forget_b2 at h
  refine gw_iload_n (pc := 2) o d_N_forget_2 rfl 1 rfl ?_
  refine gw_sipush (pc := 3) (v := (16384 : Int32)) o d_N_forget_3 (by decide) ?_
  refine gw_icmp_ge (pc := 6) (tgt := 22) o d_N_forget_6 (by decide) (fun hc => ?_) (fun hc => ?_)
  · have h := h.1 hc
    exact gw_vret (pc := 22) o ⟨Nat.le_refl _, Nat.le_refl _⟩ (zg_v.mk h) d_N_forget_22
  · have h := h.2 hc
    refine gw_aload_n (pc := 9) o d_N_forget_9 rfl 0 rfl ?_
    refine gN_get_keyKinds (pc := 10) o q_47 d_N_forget_10 ?_
    refine gw_iload_n (pc := 13) o d_N_forget_13 rfl 1 rfl ?_
    refine gw_iconst (pc := 14) (v := (-1 : Int32)) o d_N_forget_14 (by decide) ?_
    have hi := h.1
    have h := h.2
    refine gN_ast_keyKinds (pc := 15) (y := (-1 : Int32)) o hi rfl d_N_forget_15 (fun N_15 eN_15 => ?_)
    have h := h N_15 eN_15
    refine gw_iincN (pc := 16) (c := (1 : Int32)) (lw := fun x1_16 => [(1, .int x1_16), (0, .ref (τ.2.2 54))]) o d_N_forget_16 (by decide) 1 rfl (by decide) (fun _ => rfl) (fun x1_16 ex1_16 => ?_)
    have h := h x1_16 ex1_16
    refine gw_goto (pc := 19) (tgt := 2) o d_N_forget_19 (by decide) ?_
    exact gw_sub (lv' := [(0, .ref (τ.2.2 54)), (1, .int x1_16)]) [1, 0] rfl (hk2 _ _ h)
def N_forget_L2 (Z : xF → Prop) (N : xF) (x1 : Int32) : Prop := LOOP2 (fun k2 x1 N => N_forget_b2 Z k2 N x1) x1 N
theorem wk_N_forget_L2 {κ : Cx} {τ : xT} {Z : xF → Prop} {N : xF} {x1 : Int32} (o : OKc κ (wdN τ) 2 b_N_forget "StateExplorer$Nodes" none (xR 0)) (h : N_forget_L2 Z N x1) : GW κ (wdN τ) 2 (0, 0) (xMQ κ (wdN τ) (xR 0) (zg_v Z)) N 2 [(0, .ref (τ.2.2 54)), (1, .int x1)] [] := by
  unfold N_forget_L2 at h
  exact LOOP2.use (G := fun x1 N => GW κ (wdN τ) 2 (0, 0) (xMQ κ (wdN τ) (xR 0) (zg_v Z)) N 2 [(0, .ref (τ.2.2 54)), (1, .int x1)] []) (fun k2 x1 N hk2 h => wk_N_forget_b2 o hk2 h) h
def N_forget_b0 (Z : xF → Prop) (N : xF) : Prop := N_forget_L2 Z N (0 : Int32)
set_option maxRecDepth 10000 in
theorem wk_N_forget_b0 {κ : Cx} {τ : xT} {Z : xF → Prop} {N : xF} (o : OKc κ (wdN τ) 2 b_N_forget "StateExplorer$Nodes" none (xR 0)) (h : N_forget_b0 Z N) : GW κ (wdN τ) 2 (0, 0) (xMQ κ (wdN τ) (xR 0) (zg_v Z)) N 0 [(0, .ref (τ.2.2 54))] [] := by
  unfold N_forget_b0 at h
  refine gw_iconst (pc := 0) (v := (0 : Int32)) o d_N_forget_0 (by decide) ?_
  refine gw_istore_n (pc := 1) (lv' := [(1, .int (0 : Int32)), (0, .ref (τ.2.2 54))]) o d_N_forget_1 rfl (by decide) rfl ?_
  exact gw_sub (lv' := [(0, .ref (τ.2.2 54)), (1, .int (0 : Int32))]) [1, 0] rfl (wk_N_forget_L2 o h)
def w_N_forget  (N : xF)  (Z : xF → Prop) : Prop := N_forget_b0  Z N
theorem ct_N_forget {l : Launch} {τ : xT} {N : xF}  {Z : xF → Prop} (hD : xD (wdN τ)) (h : w_N_forget  N Z) : CT l (wdN τ) y_N_forget (.code y_N_forget b_N_forget 2 none) (xR 0) [.ref (τ.2.2 54)] N (zg_v Z) := by
  subst_vars
  exact CT.of (by decide) (Nat.le_of_ble_eq_true rfl) hD (fun κ hl ha o => gw_sub (lv' := [(0, .ref (τ.2.2 54))]) [0] rfl (wk_N_forget_b0 o h))
def N_sweep_b128 (Z : xF → Prop) (k44 : Int32 → xF → Prop) (N : xF) (x1 : Int32) : Prop := ∀ x1_128 : Int32, x1_128 = x1 + (-1 : Int32) → (k44 x1_128 N)
set_option maxRecDepth 10000 in
theorem wk_N_sweep_b128 {κ : Cx} {τ : xT} {Z : xF → Prop} {k44 : Int32 → xF → Prop} {N : xF} {x1 : Int32} (o : OKc κ (wdN τ) 3 b_N_sweep "StateExplorer$Nodes" none (xR 2)) (hk44 : ∀ (x1 : Int32) (N : xF), k44 x1 N → GW κ (wdN τ) 3 (0, 0) (xMQ κ (wdN τ) (xR 2) (zg_v Z)) N 44 [(0, .ref (τ.2.2 54)), (1, .int x1)] []) (h : N_sweep_b128 Z k44 N x1) : GW κ (wdN τ) 3 (0, 0) (xMQ κ (wdN τ) (xR 2) (zg_v Z)) N 128 [(0, .ref (τ.2.2 54)), (1, .int x1)] [] := by
  unfold N_sweep_b128 at h
  refine gw_iincN (pc := 128) (c := (-1 : Int32)) (lw := fun x1_128 => [(1, .int x1_128), (0, .ref (τ.2.2 54))]) o d_N_sweep_128 (by decide) 1 rfl (by decide) (fun _ => rfl) (fun x1_128 ex1_128 => ?_)
  have h := h x1_128 ex1_128
  refine gw_goto (pc := 131) (tgt := 44) o d_N_sweep_131 (by decide) ?_
  exact gw_sub (lv' := [(0, .ref (τ.2.2 54)), (1, .int x1_128)]) [1, 0] rfl (hk44 _ _ h)
def N_sweep_b44 (Z : xF → Prop) (k44 : Int32 → xF → Prop) (N : xF) (x1 : Int32) : Prop := ((x1 ≤ (1 : Int32)) → (w_N_unmark N (fun N_135 => w_N_forget N_135 (fun N_139 => Z N_139)))) ∧ (¬ (x1 ≤ (1 : Int32)) → (vp_in x1 262144 ∧ ((((N 5 x1.toNatClampNeg) = 0) → (vp_in x1 262144 ∧ (∀ N_112 : xF, N_112 = xs N 3 x1.toNatClampNeg (N 14 6) → (∀ N_115 : xF, N_115 = xs N_112 14 6 x1 → (∀ N_125 : xF, N_125 = xs N_115 14 8 ((N_115 14 8) + (1 : Int32)) → (N_sweep_b128 Z k44 N_125 x1)))))) ∧ (¬ ((N 5 x1.toNatClampNeg) = 0) → (vp_in x1 262144 ∧ (vp_in x1 262144 ∧ (vp_in x1 262144 ∧ (w_N_chain N (N 0 x1.toNatClampNeg) (N 1 x1.toNatClampNeg) (N 2 x1.toNatClampNeg) (fun r77 => vp_in r77 32768 ∧ (vp_in x1 262144 ∧ (∀ N_92 : xF, N_92 = xs N 3 x1.toNatClampNeg (N 4 r77.toNatClampNeg) → (vp_in r77 32768 ∧ (∀ N_99 : xF, N_99 = xs N_92 4 r77.toNatClampNeg x1 → (N_sweep_b128 Z k44 N_99 x1))))))))))))))
set_option maxRecDepth 10000 in
theorem wk_N_sweep_b44 {κ : Cx} {τ : xT} {Z : xF → Prop} {k44 : Int32 → xF → Prop} {N : xF} {x1 : Int32} (o : OKc κ (wdN τ) 3 b_N_sweep "StateExplorer$Nodes" none (xR 2)) (hk44 : ∀ (x1 : Int32) (N : xF), k44 x1 N → GW κ (wdN τ) 3 (0, 0) (xMQ κ (wdN τ) (xR 2) (zg_v Z)) N 44 [(0, .ref (τ.2.2 54)), (1, .int x1)] []) (h : N_sweep_b44 Z k44 N x1) : GW κ (wdN τ) 3 (0, 0) (xMQ κ (wdN τ) (xR 2) (zg_v Z)) N 44 [(0, .ref (τ.2.2 54)), (1, .int x1)] [] := by
  unfold N_sweep_b44 at h
  refine gw_iload_n (pc := 44) o d_N_sweep_44 rfl 1 rfl ?_
  refine gw_iconst (pc := 45) (v := (1 : Int32)) o d_N_sweep_45 (by decide) ?_
  refine gw_icmp_le (pc := 46) (tgt := 134) o d_N_sweep_46 (by decide) (fun hc => ?_) (fun hc => ?_)
  · have h := h.1 hc
    refine gw_aload_n (pc := 134) o d_N_sweep_134 rfl 0 rfl ?_
    refine gw_callV (pc := 135) (b := τ.2.2 54) (As := []) (st := []) o (ct_N_unmark o.hD h) mi_N_unmark q_224 q_225 q_226 0 rfl rfl (xRo_of (by omega) (by decide)) rfl rfl (Nat.le_of_ble_eq_true rfl) d_N_sweep_135 (kk_g_v rfl (fun N_135 h => ?_))
    refine gw_aload_n (pc := 138) o d_N_sweep_138 rfl 0 rfl ?_
    refine gw_callV (pc := 139) (b := τ.2.2 54) (As := []) (st := []) o (ct_N_forget o.hD h) mi_N_forget q_28 q_30 qs_0 0 rfl rfl (xRo_of (by omega) (by decide)) rfl rfl (Nat.le_of_ble_eq_true rfl) d_N_sweep_139 (kk_g_v rfl (fun N_139 h => ?_))
    exact gw_vret (pc := 142) o ⟨Nat.le_refl _, Nat.le_refl _⟩ (zg_v.mk h) d_N_sweep_142
  · have h := h.2 hc
    refine gw_aload_n (pc := 49) o d_N_sweep_49 rfl 0 rfl ?_
    refine gN_get_marked (pc := 50) o q_39 d_N_sweep_50 ?_
    refine gw_iload_n (pc := 53) o d_N_sweep_53 rfl 1 rfl ?_
    have hi := h.1
    have h := h.2
    refine gN_ald_marked (pc := 54) o hi d_N_sweep_54 ?_
    refine gw_if_eq (pc := 55) (tgt := 103) o d_N_sweep_55 (by decide) (fun hc => ?_) (fun hc => ?_)
    · have h := h.1 hc
      refine gw_aload_n (pc := 103) o d_N_sweep_103 rfl 0 rfl ?_
      refine gN_get_next (pc := 104) o q_37 d_N_sweep_104 ?_
      refine gw_iload_n (pc := 107) o d_N_sweep_107 rfl 1 rfl ?_
      refine gw_aload_n (pc := 108) o d_N_sweep_108 rfl 0 rfl ?_
      refine gN_get_free (pc := 109) o q_40 d_N_sweep_109 ?_
      have hi := h.1
      have h := h.2
      refine gN_ast_next (pc := 112) o hi d_N_sweep_112 (fun N_112 eN_112 => ?_)
      have h := h N_112 eN_112
      refine gw_aload_n (pc := 113) o d_N_sweep_113 rfl 0 rfl ?_
      refine gw_iload_n (pc := 114) o d_N_sweep_114 rfl 1 rfl ?_
      refine gN_put_free (pc := 115) o q_40 d_N_sweep_115 (fun N_115 eN_115 => ?_)
      have h := h N_115 eN_115
      refine gw_aload_n (pc := 118) o d_N_sweep_118 rfl 0 rfl ?_
      refine gw_dup (pc := 119) o d_N_sweep_119 rfl ?_
      refine gN_get_spare (pc := 120) o q_42 d_N_sweep_120 ?_
      refine gw_iconst (pc := 123) (v := (1 : Int32)) o d_N_sweep_123 (by decide) ?_
      refine gw_iadd (pc := 124) o d_N_sweep_124 ?_
      refine gN_put_spare (pc := 125) o q_42 d_N_sweep_125 (fun N_125 eN_125 => ?_)
      have h := h N_125 eN_125
      exact gw_sub (lv' := [(0, .ref (τ.2.2 54)), (1, .int x1)]) [0, 1] rfl (wk_N_sweep_b128 o hk44 h)
    · have h := h.2 hc
      refine gw_aload_n (pc := 58) o d_N_sweep_58 rfl 0 rfl ?_
      refine gw_aload_n (pc := 59) o d_N_sweep_59 rfl 0 rfl ?_
      refine gN_get_levels (pc := 60) o q_32 d_N_sweep_60 ?_
      refine gw_iload_n (pc := 63) o d_N_sweep_63 rfl 1 rfl ?_
      have hi := h.1
      have h := h.2
      refine gN_ald_levels (pc := 64) o hi d_N_sweep_64 ?_
      refine gw_aload_n (pc := 65) o d_N_sweep_65 rfl 0 rfl ?_
      refine gN_get_lows (pc := 66) o q_33 d_N_sweep_66 ?_
      refine gw_iload_n (pc := 69) o d_N_sweep_69 rfl 1 rfl ?_
      have hi := h.1
      have h := h.2
      refine gN_ald_lows (pc := 70) o hi d_N_sweep_70 ?_
      refine gw_aload_n (pc := 71) o d_N_sweep_71 rfl 0 rfl ?_
      refine gN_get_highs (pc := 72) o q_35 d_N_sweep_72 ?_
      refine gw_iload_n (pc := 75) o d_N_sweep_75 rfl 1 rfl ?_
      have hi := h.1
      have h := h.2
      refine gN_ald_highs (pc := 76) o hi d_N_sweep_76 ?_
      refine gw_callV (pc := 77) (b := τ.2.2 54) (As := [.int (N 0 x1.toNatClampNeg), .int (N 1 x1.toNatClampNeg), .int (N 2 x1.toNatClampNeg)]) (st := []) o (ct_N_chain o.hD h) mi_N_chain q_214 q_216 qs_5 0 rfl rfl (xRo_of (by omega) (by decide)) rfl rfl (Nat.le_of_ble_eq_true rfl) d_N_sweep_77 (kk_p_i rfl (fun r77 h => ?_))
      refine gw_istore_n (pc := 80) (lv' := [(2, .int r77), (0, .ref (τ.2.2 54)), (1, .int x1)]) o d_N_sweep_80 rfl (by decide) rfl ?_
      refine gw_aload_n (pc := 81) o d_N_sweep_81 rfl 1 rfl ?_
      refine gN_get_next (pc := 82) o q_37 d_N_sweep_82 ?_
      refine gw_iload_n (pc := 85) o d_N_sweep_85 rfl 2 rfl ?_
      refine gw_aload_n (pc := 86) o d_N_sweep_86 rfl 1 rfl ?_
      refine gN_get_chains (pc := 87) o q_38 d_N_sweep_87 ?_
      refine gw_iload_n (pc := 90) o d_N_sweep_90 rfl 0 rfl ?_
      have hi := h.1
      have h := h.2
      refine gN_ald_chains (pc := 91) o hi d_N_sweep_91 ?_
      have hi := h.1
      have h := h.2
      refine gN_ast_next (pc := 92) o hi d_N_sweep_92 (fun N_92 eN_92 => ?_)
      have h := h N_92 eN_92
      refine gw_aload_n (pc := 93) o d_N_sweep_93 rfl 1 rfl ?_
      refine gN_get_chains (pc := 94) o q_38 d_N_sweep_94 ?_
      refine gw_iload_n (pc := 97) o d_N_sweep_97 rfl 0 rfl ?_
      refine gw_iload_n (pc := 98) o d_N_sweep_98 rfl 2 rfl ?_
      have hi := h.1
      have h := h.2
      refine gN_ast_chains (pc := 99) o hi d_N_sweep_99 (fun N_99 eN_99 => ?_)
      have h := h N_99 eN_99
      refine gw_goto (pc := 100) (tgt := 128) o d_N_sweep_100 (by decide) ?_
      exact gw_sub (lv' := [(0, .ref (τ.2.2 54)), (1, .int x1)]) [1, 2] rfl (wk_N_sweep_b128 o hk44 h)
def N_sweep_L44 (Z : xF → Prop) (N : xF) (x1 : Int32) : Prop := LOOP2 (fun k44 x1 N => N_sweep_b44 Z k44 N x1) x1 N
theorem wk_N_sweep_L44 {κ : Cx} {τ : xT} {Z : xF → Prop} {N : xF} {x1 : Int32} (o : OKc κ (wdN τ) 3 b_N_sweep "StateExplorer$Nodes" none (xR 2)) (h : N_sweep_L44 Z N x1) : GW κ (wdN τ) 3 (0, 0) (xMQ κ (wdN τ) (xR 2) (zg_v Z)) N 44 [(0, .ref (τ.2.2 54)), (1, .int x1)] [] := by
  unfold N_sweep_L44 at h
  exact LOOP2.use (G := fun x1 N => GW κ (wdN τ) 3 (0, 0) (xMQ κ (wdN τ) (xR 2) (zg_v Z)) N 44 [(0, .ref (τ.2.2 54)), (1, .int x1)] []) (fun k44 x1 N hk44 h => wk_N_sweep_b44 o hk44 h) h
def N_sweep_b2 (Z : xF → Prop) (k2 : Int32 → xF → Prop) (N : xF) (x1 : Int32) : Prop := (((32768 : Int32) ≤ x1) → (∀ N_23 : xF, N_23 = xs N 14 6 (-1 : Int32) → (∀ N_34 : xF, N_34 = xs N_23 14 8 ((262144 : Int32) - (N_23 14 7)) → (∀ x1_43 : Int32, x1_43 = (N_34 14 7) - (1 : Int32) → (N_sweep_L44 Z N_34 x1_43))))) ∧ (¬ ((32768 : Int32) ≤ x1) → (vp_in x1 32768 ∧ (∀ N_14 : xF, N_14 = xs N 4 x1.toNatClampNeg (-1 : Int32) → (∀ x1_15 : Int32, x1_15 = x1 + (1 : Int32) → (k2 x1_15 N_14)))))
set_option maxRecDepth 10000 in
theorem wk_N_sweep_b2 {κ : Cx} {τ : xT} {Z : xF → Prop} {k2 : Int32 → xF → Prop} {N : xF} {x1 : Int32} (o : OKc κ (wdN τ) 3 b_N_sweep "StateExplorer$Nodes" none (xR 2)) (hk2 : ∀ (x1 : Int32) (N : xF), k2 x1 N → GW κ (wdN τ) 3 (0, 0) (xMQ κ (wdN τ) (xR 2) (zg_v Z)) N 2 [(0, .ref (τ.2.2 54)), (1, .int x1)] []) (h : N_sweep_b2 Z k2 N x1) : GW κ (wdN τ) 3 (0, 0) (xMQ κ (wdN τ) (xR 2) (zg_v Z)) N 2 [(0, .ref (τ.2.2 54)), (1, .int x1)] [] := by
  unfold N_sweep_b2 at h
  refine gw_iload_n (pc := 2) o d_N_sweep_2 rfl 1 rfl ?_
  refine gw_ldc (pc := 3) o q_26 d_N_sweep_3 ?_
  refine gw_icmp_ge (pc := 5) (tgt := 21) o d_N_sweep_5 (by decide) (fun hc => ?_) (fun hc => ?_)
  · have h := h.1 hc
    refine gw_aload_n (pc := 21) o d_N_sweep_21 rfl 0 rfl ?_
    refine gw_iconst (pc := 22) (v := (-1 : Int32)) o d_N_sweep_22 (by decide) ?_
    refine gN_put_free (pc := 23) o q_40 d_N_sweep_23 (fun N_23 eN_23 => ?_)
    have h := h N_23 eN_23
    refine gw_aload_n (pc := 26) o d_N_sweep_26 rfl 0 rfl ?_
    refine gw_ldc (pc := 27) o q_25 d_N_sweep_27 ?_
    refine gw_aload_n (pc := 29) o d_N_sweep_29 rfl 0 rfl ?_
    refine gN_get_used (pc := 30) o q_41 d_N_sweep_30 ?_
    refine gw_isub (pc := 33) o d_N_sweep_33 ?_
    refine gN_put_spare (pc := 34) o q_42 d_N_sweep_34 (fun N_34 eN_34 => ?_)
    have h := h N_34 eN_34
    refine gw_aload_n (pc := 37) o d_N_sweep_37 rfl 0 rfl ?_
    refine gN_get_used (pc := 38) o q_41 d_N_sweep_38 ?_
    refine gw_iconst (pc := 41) (v := (1 : Int32)) o d_N_sweep_41 (by decide) ?_
    refine gw_isub (pc := 42) o d_N_sweep_42 ?_
    refine gw_topi (fun x1_43 ex1_43 => ?_)
    have h := h x1_43 ex1_43
    refine gw_istore_n (pc := 43) (lv' := [(1, .int x1_43), (0, .ref (τ.2.2 54))]) o d_N_sweep_43 rfl (by decide) rfl ?_
    exact gw_sub (lv' := [(0, .ref (τ.2.2 54)), (1, .int x1_43)]) [1, 0] rfl (wk_N_sweep_L44 o h)
  · have h := h.2 hc
    refine gw_aload_n (pc := 8) o d_N_sweep_8 rfl 0 rfl ?_
    refine gN_get_chains (pc := 9) o q_38 d_N_sweep_9 ?_
    refine gw_iload_n (pc := 12) o d_N_sweep_12 rfl 1 rfl ?_
    refine gw_iconst (pc := 13) (v := (-1 : Int32)) o d_N_sweep_13 (by decide) ?_
    have hi := h.1
    have h := h.2
    refine gN_ast_chains (pc := 14) o hi d_N_sweep_14 (fun N_14 eN_14 => ?_)
    have h := h N_14 eN_14
    refine gw_iincN (pc := 15) (c := (1 : Int32)) (lw := fun x1_15 => [(1, .int x1_15), (0, .ref (τ.2.2 54))]) o d_N_sweep_15 (by decide) 1 rfl (by decide) (fun _ => rfl) (fun x1_15 ex1_15 => ?_)
    have h := h x1_15 ex1_15
    refine gw_goto (pc := 18) (tgt := 2) o d_N_sweep_18 (by decide) ?_
    exact gw_sub (lv' := [(0, .ref (τ.2.2 54)), (1, .int x1_15)]) [1, 0] rfl (hk2 _ _ h)
def N_sweep_L2 (Z : xF → Prop) (N : xF) (x1 : Int32) : Prop := LOOP2 (fun k2 x1 N => N_sweep_b2 Z k2 N x1) x1 N
theorem wk_N_sweep_L2 {κ : Cx} {τ : xT} {Z : xF → Prop} {N : xF} {x1 : Int32} (o : OKc κ (wdN τ) 3 b_N_sweep "StateExplorer$Nodes" none (xR 2)) (h : N_sweep_L2 Z N x1) : GW κ (wdN τ) 3 (0, 0) (xMQ κ (wdN τ) (xR 2) (zg_v Z)) N 2 [(0, .ref (τ.2.2 54)), (1, .int x1)] [] := by
  unfold N_sweep_L2 at h
  exact LOOP2.use (G := fun x1 N => GW κ (wdN τ) 3 (0, 0) (xMQ κ (wdN τ) (xR 2) (zg_v Z)) N 2 [(0, .ref (τ.2.2 54)), (1, .int x1)] []) (fun k2 x1 N hk2 h => wk_N_sweep_b2 o hk2 h) h
def N_sweep_b0 (Z : xF → Prop) (N : xF) : Prop := N_sweep_L2 Z N (0 : Int32)
set_option maxRecDepth 10000 in
theorem wk_N_sweep_b0 {κ : Cx} {τ : xT} {Z : xF → Prop} {N : xF} (o : OKc κ (wdN τ) 3 b_N_sweep "StateExplorer$Nodes" none (xR 2)) (h : N_sweep_b0 Z N) : GW κ (wdN τ) 3 (0, 0) (xMQ κ (wdN τ) (xR 2) (zg_v Z)) N 0 [(0, .ref (τ.2.2 54))] [] := by
  unfold N_sweep_b0 at h
  refine gw_iconst (pc := 0) (v := (0 : Int32)) o d_N_sweep_0 (by decide) ?_
  refine gw_istore_n (pc := 1) (lv' := [(1, .int (0 : Int32)), (0, .ref (τ.2.2 54))]) o d_N_sweep_1 rfl (by decide) rfl ?_
  exact gw_sub (lv' := [(0, .ref (τ.2.2 54)), (1, .int (0 : Int32))]) [1, 0] rfl (wk_N_sweep_L2 o h)
def w_N_sweep  (N : xF)  (Z : xF → Prop) : Prop := N_sweep_b0  Z N
theorem ct_N_sweep {l : Launch} {τ : xT} {N : xF}  {Z : xF → Prop} (hD : xD (wdN τ)) (h : w_N_sweep  N Z) : CT l (wdN τ) y_N_sweep (.code y_N_sweep b_N_sweep 3 none) (xR 2) [.ref (τ.2.2 54)] N (zg_v Z) := by
  subst_vars
  exact CT.of (by decide) (Nat.le_of_ble_eq_true rfl) hD (fun κ hl ha o => gw_sub (lv' := [(0, .ref (τ.2.2 54))]) [0] rfl (wk_N_sweep_b0 o h))
def N_level_b0 (Z : Int32 → Prop) (N : xF) (x1 : Int32) : Prop := vp_in x1 262144 ∧ (Z (N 0 x1.toNatClampNeg))
set_option maxRecDepth 10000 in
theorem wk_N_level_b0 {κ : Cx} {τ : xT} {Z : Int32 → Prop} {N : xF} {x1 : Int32} (o : OKc κ (wdN τ) 2 b_N_level "StateExplorer$Nodes" (some .int) (xR 0)) (h : N_level_b0 Z N x1) : GW κ (wdN τ) 2 (0, 0) (xMQ κ (wdN τ) (xR 0) (zp_i N Z)) N 0 [(0, .ref (τ.2.2 54)), (1, .int x1)] [] := by
  unfold N_level_b0 at h
  refine gw_aload_n (pc := 0) o d_N_level_0 rfl 0 rfl ?_
  refine gN_get_levels (pc := 1) o q_32 d_N_level_1 ?_
  refine gw_iload_n (pc := 4) o d_N_level_4 rfl 1 rfl ?_
  have hi := h.1
  have h := h.2
  refine gN_ald_levels (pc := 5) o hi d_N_level_5 ?_
  exact gw_iret (pc := 6) o ⟨Nat.le_refl _, Nat.le_refl _⟩ (zp_i.mk h) d_N_level_6
def w_N_level  (N : xF) (x1 : Int32) (Z : Int32 → Prop) : Prop := N_level_b0  Z N x1
theorem ct_N_level {l : Launch} {τ : xT} {N : xF} {x1 : Int32} {Z : Int32 → Prop} (hD : xD (wdN τ)) (h : w_N_level  N x1 Z) : CT l (wdN τ) y_N_level (.code y_N_level b_N_level 2 (some .int)) (xR 0) [.ref (τ.2.2 54), .int x1] N (zp_i N Z) := by
  subst_vars
  exact CT.of (by decide) (Nat.le_of_ble_eq_true rfl) hD (fun κ hl ha o => gw_sub (lv' := [(0, .ref (τ.2.2 54)), (1, .int x1)]) [0, 1] rfl (wk_N_level_b0 o h))
def X_first_b0 (Z : Int32 → Prop) (N : xF) (x1 : Int32) (x2 : Int32) (x3 : Int32) : Prop := w_N_level N x1 (fun r2 => w_N_level N x2 (fun r7 => w_N_level N x3 (fun r12 => Z (if (if r12 < r7 then r12 else r7) < r2 then (if r12 < r7 then r12 else r7) else r2))))
set_option maxRecDepth 10000 in
theorem wk_X_first_b0 {κ : Cx} {τ : xT} {Z : Int32 → Prop} {N : xF} {x1 : Int32} {x2 : Int32} {x3 : Int32} (o : OKc κ (wdN τ) 4 b_X_first "StateExplorer" (some .int) (xR 1)) (h : X_first_b0 Z N x1 x2 x3) : GW κ (wdN τ) 4 (0, 0) (xMQ κ (wdN τ) (xR 1) (zp_i N Z)) N 0 [(0, .ref (τ.2.2 54)), (1, .int x1), (2, .int x2), (3, .int x3)] [] := by
  unfold X_first_b0 at h
  refine gw_aload_n (pc := 0) o d_X_first_0 rfl 0 rfl ?_
  refine gw_iload_n (pc := 1) o d_X_first_1 rfl 1 rfl ?_
  refine gw_callV (pc := 2) (b := τ.2.2 54) (As := [.int x1]) (st := []) o (ct_N_level o.hD h) mi_N_level q_254 q_255 q_256 0 rfl rfl (xRo_of (by omega) (by decide)) rfl rfl (Nat.le_of_ble_eq_true rfl) d_X_first_2 (kk_p_i rfl (fun r2 h => ?_))
  refine gw_aload_n (pc := 5) o d_X_first_5 rfl 0 rfl ?_
  refine gw_iload_n (pc := 6) o d_X_first_6 rfl 2 rfl ?_
  refine gw_callV (pc := 7) (b := τ.2.2 54) (As := [.int x2]) (st := [.int r2]) o (ct_N_level o.hD h) mi_N_level q_254 q_255 q_256 0 rfl rfl (xRo_of (by omega) (by decide)) rfl rfl (Nat.le_of_ble_eq_true rfl) d_X_first_7 (kk_p_i rfl (fun r7 h => ?_))
  refine gw_aload_n (pc := 10) o d_X_first_10 rfl 0 rfl ?_
  refine gw_iload_n (pc := 11) o d_X_first_11 rfl 3 rfl ?_
  refine gw_callV (pc := 12) (b := τ.2.2 54) (As := [.int x3]) (st := [.int r7, .int r2]) o (ct_N_level o.hD h) mi_N_level q_254 q_255 q_256 0 rfl rfl (xRo_of (by omega) (by decide)) rfl rfl (Nat.le_of_ble_eq_true rfl) d_X_first_12 (kk_p_i rfl (fun r12 h => ?_))
  refine gw_min (pc := 15) o q_258 q_259 q_10 q_260 (by decide) (Nat.le_of_ble_eq_true rfl) ⟨Nat.le_refl _, Nat.le_refl _⟩ d_X_first_15 ?_
  refine gw_min (pc := 18) o q_258 q_259 q_10 q_260 (by decide) (Nat.le_of_ble_eq_true rfl) ⟨Nat.le_refl _, Nat.le_refl _⟩ d_X_first_18 ?_
  exact gw_iret (pc := 21) o ⟨Nat.le_refl _, Nat.le_refl _⟩ (zp_i.mk h) d_X_first_21
def w_X_first  (N : xF) (x1 : Int32) (x2 : Int32) (x3 : Int32) (Z : Int32 → Prop) : Prop := X_first_b0  Z N x1 x2 x3
theorem ct_X_first {l : Launch} {τ : xT} {N : xF} {x1 : Int32} {x2 : Int32} {x3 : Int32} {Z : Int32 → Prop} (hD : xD (wdN τ)) (h : w_X_first  N x1 x2 x3 Z) : CT l (wdN τ) y_X_first (.code y_X_first b_X_first 4 (some .int)) (xR 1) [.ref (τ.2.2 54), .int x1, .int x2, .int x3] N (zp_i N Z) := by
  subst_vars
  exact CT.of (by decide) (Nat.le_of_ble_eq_true rfl) hD (fun κ hl ha o => gw_sub (lv' := [(0, .ref (τ.2.2 54)), (1, .int x1), (2, .int x2), (3, .int x3)]) [0, 1, 2, 3] rfl (wk_X_first_b0 o h))
def N_place_b0 (Z : Int32 → Prop) (N : xF) (x1 : Int32) (x2 : Int32) (x3 : Int32) (x4 : Int32) : Prop := w_N_mixed (x2 + x1) x3 x4 (fun r6 => Z (r6 &&& (16383 : Int32)))
set_option maxRecDepth 10000 in
theorem wk_N_place_b0 {κ : Cx} {τ : xT} {Z : Int32 → Prop} {N : xF} {x1 : Int32} {x2 : Int32} {x3 : Int32} {x4 : Int32} (o : OKc κ (wdN τ) 5 b_N_place "StateExplorer$Nodes" (some .int) (xR 1)) (h : N_place_b0 Z N x1 x2 x3 x4) : GW κ (wdN τ) 5 (0, 0) (xMQ κ (wdN τ) (xR 1) (zp_i N Z)) N 0 [(0, .ref (τ.2.2 54)), (1, .int x1), (2, .int x2), (3, .int x3), (4, .int x4)] [] := by
  unfold N_place_b0 at h
  refine gw_iload_n (pc := 0) o d_N_place_0 rfl 2 rfl ?_
  refine gw_iload_n (pc := 1) o d_N_place_1 rfl 1 rfl ?_
  refine gw_iadd (pc := 2) o d_N_place_2 ?_
  refine gw_iload_n (pc := 3) o d_N_place_3 rfl 3 rfl ?_
  refine gw_iload (pc := 4) o d_N_place_4 4 rfl ?_
  refine gw_callS (pc := 6) (As := [.int (x2 + x1), .int x3, .int x4]) (st := []) o (ct_N_mixed o.hD h) mi_N_mixed q_218 q_219 (xRo_of (by omega) (by decide)) rfl rfl (Nat.le_of_ble_eq_true rfl) d_N_place_6 (kk_p_i rfl (fun r6 h => ?_))
  refine gw_sipush (pc := 9) (v := (16383 : Int32)) o d_N_place_9 (by decide) ?_
  refine gw_iand (pc := 12) o d_N_place_12 ?_
  exact gw_iret (pc := 13) o ⟨Nat.le_refl _, Nat.le_refl _⟩ (zp_i.mk h) d_N_place_13
def w_N_place  (N : xF) (x1 : Int32) (x2 : Int32) (x3 : Int32) (x4 : Int32) (Z : Int32 → Prop) : Prop := N_place_b0  Z N x1 x2 x3 x4
theorem ct_N_place {l : Launch} {τ : xT} {N : xF} {x1 : Int32} {x2 : Int32} {x3 : Int32} {x4 : Int32} {Z : Int32 → Prop} (hD : xD (wdN τ)) (h : w_N_place  N x1 x2 x3 x4 Z) : CT l (wdN τ) y_N_place (.code y_N_place b_N_place 5 (some .int)) (xR 1) [.ref (τ.2.2 54), .int x1, .int x2, .int x3, .int x4] N (zp_i N Z) := by
  subst_vars
  exact CT.of (by decide) (Nat.le_of_ble_eq_true rfl) hD (fun κ hl ha o => gw_sub (lv' := [(0, .ref (τ.2.2 54)), (1, .int x1), (2, .int x2), (3, .int x3), (4, .int x4)]) [0, 1, 2, 3, 4] rfl (wk_N_place_b0 o h))
def N_known_b67 (Z : Int32 → Prop) (N : xF) (s0 : Int32) : Prop := Z s0
set_option maxRecDepth 10000 in
theorem wk_N_known_b67 {κ : Cx} {τ : xT} {Z : Int32 → Prop} {N : xF} {s0 : Int32} (o : OKc κ (wdN τ) 6 b_N_known "StateExplorer$Nodes" (some .int) (xR 2)) (h : N_known_b67 Z N s0) : GW κ (wdN τ) 6 (0, 0) (xMQ κ (wdN τ) (xR 2) (zp_i N Z)) N 67 [] [.int s0] := by
  unfold N_known_b67 at h
  exact gw_iret (pc := 67) o ⟨Nat.le_refl _, Nat.le_refl _⟩ (zp_i.mk h) d_N_known_67
def N_known_b66 (Z : Int32 → Prop) (N : xF) : Prop := N_known_b67 Z N (-1 : Int32)
set_option maxRecDepth 10000 in
theorem wk_N_known_b66 {κ : Cx} {τ : xT} {Z : Int32 → Prop} {N : xF} (o : OKc κ (wdN τ) 6 b_N_known "StateExplorer$Nodes" (some .int) (xR 2)) (h : N_known_b66 Z N) : GW κ (wdN τ) 6 (0, 0) (xMQ κ (wdN τ) (xR 2) (zp_i N Z)) N 66 [] [] := by
  unfold N_known_b66 at h
  refine gw_iconst (pc := 66) (v := (-1 : Int32)) o d_N_known_66 (by decide) ?_
  exact gw_sub (lv' := []) [] rfl (wk_N_known_b67 o h)
def N_known_b0 (Z : Int32 → Prop) (N : xF) (x1 : Int32) (x2 : Int32) (x3 : Int32) (x4 : Int32) : Prop := w_N_place N x1 x2 x3 x4 (fun r6 => vp_in r6 16384 ∧ ((((N 13 r6.toNatClampNeg) = x1) → (vp_in r6 16384 ∧ ((((N 9 r6.toNatClampNeg) = x2) → (vp_in r6 16384 ∧ ((((N 10 r6.toNatClampNeg) = x3) → (vp_in r6 16384 ∧ ((((N 11 r6.toNatClampNeg) = x4) → (vp_in r6 16384 ∧ (N_known_b67 Z N (N 12 r6.toNatClampNeg)))) ∧ (¬ ((N 11 r6.toNatClampNeg) = x4) → (N_known_b66 Z N))))) ∧ (¬ ((N 10 r6.toNatClampNeg) = x3) → (N_known_b66 Z N))))) ∧ (¬ ((N 9 r6.toNatClampNeg) = x2) → (N_known_b66 Z N))))) ∧ (¬ ((N 13 r6.toNatClampNeg) = x1) → (N_known_b66 Z N))))
set_option maxRecDepth 10000 in
theorem wk_N_known_b0 {κ : Cx} {τ : xT} {Z : Int32 → Prop} {N : xF} {x1 : Int32} {x2 : Int32} {x3 : Int32} {x4 : Int32} (o : OKc κ (wdN τ) 6 b_N_known "StateExplorer$Nodes" (some .int) (xR 2)) (h : N_known_b0 Z N x1 x2 x3 x4) : GW κ (wdN τ) 6 (0, 0) (xMQ κ (wdN τ) (xR 2) (zp_i N Z)) N 0 [(0, .ref (τ.2.2 54)), (1, .int x1), (2, .int x2), (3, .int x3), (4, .int x4)] [] := by
  unfold N_known_b0 at h
  refine gw_aload_n (pc := 0) o d_N_known_0 rfl 0 rfl ?_
  refine gw_iload_n (pc := 1) o d_N_known_1 rfl 1 rfl ?_
  refine gw_iload_n (pc := 2) o d_N_known_2 rfl 2 rfl ?_
  refine gw_iload_n (pc := 3) o d_N_known_3 rfl 3 rfl ?_
  refine gw_iload (pc := 4) o d_N_known_4 4 rfl ?_
  refine gw_callV (pc := 6) (b := τ.2.2 54) (As := [.int x1, .int x2, .int x3, .int x4]) (st := []) o (ct_N_place o.hD h) mi_N_place q_247 q_249 qs_8 0 rfl rfl (xRo_of (by omega) (by decide)) rfl rfl (Nat.le_of_ble_eq_true rfl) d_N_known_6 (kk_p_i rfl (fun r6 h => ?_))
  refine gw_istore (pc := 9) (lv' := [(5, .int r6), (0, .ref (τ.2.2 54)), (1, .int x1), (2, .int x2), (3, .int x3), (4, .int x4)]) o d_N_known_9 (by decide) rfl ?_
  refine gw_aload_n (pc := 11) o d_N_known_11 rfl 1 rfl ?_
  refine gN_get_keyKinds (pc := 12) o q_47 d_N_known_12 ?_
  refine gw_iload (pc := 15) o d_N_known_15 0 rfl ?_
  have hi := h.1
  have h := h.2
  refine gN_ald_keyKinds (pc := 17) o hi d_N_known_17 ?_
  refine gw_iload_n (pc := 18) o d_N_known_18 rfl 2 rfl ?_
  refine gw_icmp_ne (pc := 19) (tgt := 66) o d_N_known_19 (by decide) (fun hc => ?_) (fun hc => ?_)
  · have h := h.2 hc
    exact gw_sub (lv' := []) [] rfl (wk_N_known_b66 o h)
  · have h := h.1 hc
    refine gw_aload_n (pc := 22) o d_N_known_22 rfl 1 rfl ?_
    refine gN_get_keyA (pc := 23) o q_43 d_N_known_23 ?_
    refine gw_iload (pc := 26) o d_N_known_26 0 rfl ?_
    have hi := h.1
    have h := h.2
    refine gN_ald_keyA (pc := 28) o hi d_N_known_28 ?_
    refine gw_iload_n (pc := 29) o d_N_known_29 rfl 3 rfl ?_
    refine gw_icmp_ne (pc := 30) (tgt := 66) o d_N_known_30 (by decide) (fun hc => ?_) (fun hc => ?_)
    · have h := h.2 hc
      exact gw_sub (lv' := []) [] rfl (wk_N_known_b66 o h)
    · have h := h.1 hc
      refine gw_aload_n (pc := 33) o d_N_known_33 rfl 1 rfl ?_
      refine gN_get_keyB (pc := 34) o q_44 d_N_known_34 ?_
      refine gw_iload (pc := 37) o d_N_known_37 0 rfl ?_
      have hi := h.1
      have h := h.2
      refine gN_ald_keyB (pc := 39) o hi d_N_known_39 ?_
      refine gw_iload_n (pc := 40) o d_N_known_40 rfl 4 rfl ?_
      refine gw_icmp_ne (pc := 41) (tgt := 66) o d_N_known_41 (by decide) (fun hc => ?_) (fun hc => ?_)
      · have h := h.2 hc
        exact gw_sub (lv' := []) [] rfl (wk_N_known_b66 o h)
      · have h := h.1 hc
        refine gw_aload_n (pc := 44) o d_N_known_44 rfl 1 rfl ?_
        refine gN_get_keyC (pc := 45) o q_45 d_N_known_45 ?_
        refine gw_iload (pc := 48) o d_N_known_48 0 rfl ?_
        have hi := h.1
        have h := h.2
        refine gN_ald_keyC (pc := 50) o hi d_N_known_50 ?_
        refine gw_iload (pc := 51) o d_N_known_51 5 rfl ?_
        refine gw_icmp_ne (pc := 53) (tgt := 66) o d_N_known_53 (by decide) (fun hc => ?_) (fun hc => ?_)
        · have h := h.2 hc
          exact gw_sub (lv' := []) [] rfl (wk_N_known_b66 o h)
        · have h := h.1 hc
          refine gw_aload_n (pc := 56) o d_N_known_56 rfl 1 rfl ?_
          refine gN_get_results (pc := 57) o q_46 d_N_known_57 ?_
          refine gw_iload (pc := 60) o d_N_known_60 0 rfl ?_
          have hi := h.1
          have h := h.2
          refine gN_ald_results (pc := 62) o hi d_N_known_62 ?_
          refine gw_goto (pc := 63) (tgt := 67) o d_N_known_63 (by decide) ?_
          exact gw_sub (lv' := []) [] rfl (wk_N_known_b67 o h)
def w_N_known  (N : xF) (x1 : Int32) (x2 : Int32) (x3 : Int32) (x4 : Int32) (Z : Int32 → Prop) : Prop := N_known_b0  Z N x1 x2 x3 x4
theorem ct_N_known {l : Launch} {τ : xT} {N : xF} {x1 : Int32} {x2 : Int32} {x3 : Int32} {x4 : Int32} {Z : Int32 → Prop} (hD : xD (wdN τ)) (h : w_N_known  N x1 x2 x3 x4 Z) : CT l (wdN τ) y_N_known (.code y_N_known b_N_known 6 (some .int)) (xR 2) [.ref (τ.2.2 54), .int x1, .int x2, .int x3, .int x4] N (zp_i N Z) := by
  subst_vars
  exact CT.of (by decide) (Nat.le_of_ble_eq_true rfl) hD (fun κ hl ha o => gw_sub (lv' := [(0, .ref (τ.2.2 54)), (1, .int x1), (2, .int x2), (3, .int x3), (4, .int x4)]) [0, 1, 2, 3, 4] rfl (wk_N_known_b0 o h))
def N_cofactor_b33 (Z : Int32 → Prop) (N : xF) (s0 : Int32) : Prop := Z s0
set_option maxRecDepth 10000 in
theorem wk_N_cofactor_b33 {κ : Cx} {τ : xT} {Z : Int32 → Prop} {N : xF} {s0 : Int32} (o : OKc κ (wdN τ) 4 b_N_cofactor "StateExplorer$Nodes" (some .int) (xR 0)) (h : N_cofactor_b33 Z N s0) : GW κ (wdN τ) 4 (0, 0) (xMQ κ (wdN τ) (xR 0) (zp_i N Z)) N 33 [] [.int s0] := by
  unfold N_cofactor_b33 at h
  exact gw_iret (pc := 33) o ⟨Nat.le_refl _, Nat.le_refl _⟩ (zp_i.mk h) d_N_cofactor_33
def N_cofactor_b0 (Z : Int32 → Prop) (N : xF) (x1 : Int32) (x2 : Int32) (x3 : Int32) : Prop := vp_in x1 262144 ∧ ((((N 0 x1.toNatClampNeg) = x2) → (((x3 = 0) → (vp_in x1 262144 ∧ (N_cofactor_b33 Z N (N 1 x1.toNatClampNeg)))) ∧ (¬ (x3 = 0) → (vp_in x1 262144 ∧ (N_cofactor_b33 Z N (N 2 x1.toNatClampNeg)))))) ∧ (¬ ((N 0 x1.toNatClampNeg) = x2) → (N_cofactor_b33 Z N x1)))
set_option maxRecDepth 10000 in
theorem wk_N_cofactor_b0 {κ : Cx} {τ : xT} {Z : Int32 → Prop} {N : xF} {x1 : Int32} {x2 : Int32} {x3 : Int32} (o : OKc κ (wdN τ) 4 b_N_cofactor "StateExplorer$Nodes" (some .int) (xR 0)) (h : N_cofactor_b0 Z N x1 x2 x3) : GW κ (wdN τ) 4 (0, 0) (xMQ κ (wdN τ) (xR 0) (zp_i N Z)) N 0 [(0, .ref (τ.2.2 54)), (1, .int x1), (2, .int x2), (3, .int x3)] [] := by
  unfold N_cofactor_b0 at h
  refine gw_aload_n (pc := 0) o d_N_cofactor_0 rfl 0 rfl ?_
  refine gN_get_levels (pc := 1) o q_32 d_N_cofactor_1 ?_
  refine gw_iload_n (pc := 4) o d_N_cofactor_4 rfl 1 rfl ?_
  have hi := h.1
  have h := h.2
  refine gN_ald_levels (pc := 5) o hi d_N_cofactor_5 ?_
  refine gw_iload_n (pc := 6) o d_N_cofactor_6 rfl 2 rfl ?_
  refine gw_icmp_eq (pc := 7) (tgt := 14) o d_N_cofactor_7 (by decide) (fun hc => ?_) (fun hc => ?_)
  · have h := h.1 hc
    refine gw_iload_n (pc := 14) o d_N_cofactor_14 rfl 3 rfl ?_
    refine gw_if_eq (pc := 15) (tgt := 27) o d_N_cofactor_15 (by decide) (fun hc => ?_) (fun hc => ?_)
    · have h := h.1 hc
      refine gw_aload_n (pc := 27) o d_N_cofactor_27 rfl 0 rfl ?_
      refine gN_get_lows (pc := 28) o q_33 d_N_cofactor_28 ?_
      refine gw_iload_n (pc := 31) o d_N_cofactor_31 rfl 1 rfl ?_
      have hi := h.1
      have h := h.2
      refine gN_ald_lows (pc := 32) o hi d_N_cofactor_32 ?_
      exact gw_sub (lv' := []) [] rfl (wk_N_cofactor_b33 o h)
    · have h := h.2 hc
      refine gw_aload_n (pc := 18) o d_N_cofactor_18 rfl 0 rfl ?_
      refine gN_get_highs (pc := 19) o q_35 d_N_cofactor_19 ?_
      refine gw_iload_n (pc := 22) o d_N_cofactor_22 rfl 1 rfl ?_
      have hi := h.1
      have h := h.2
      refine gN_ald_highs (pc := 23) o hi d_N_cofactor_23 ?_
      refine gw_goto (pc := 24) (tgt := 33) o d_N_cofactor_24 (by decide) ?_
      exact gw_sub (lv' := []) [] rfl (wk_N_cofactor_b33 o h)
  · have h := h.2 hc
    refine gw_iload_n (pc := 10) o d_N_cofactor_10 rfl 1 rfl ?_
    refine gw_goto (pc := 11) (tgt := 33) o d_N_cofactor_11 (by decide) ?_
    exact gw_sub (lv' := []) [] rfl (wk_N_cofactor_b33 o h)
def w_N_cofactor  (N : xF) (x1 : Int32) (x2 : Int32) (x3 : Int32) (Z : Int32 → Prop) : Prop := N_cofactor_b0  Z N x1 x2 x3
theorem ct_N_cofactor {l : Launch} {τ : xT} {N : xF} {x1 : Int32} {x2 : Int32} {x3 : Int32} {Z : Int32 → Prop} (hD : xD (wdN τ)) (h : w_N_cofactor  N x1 x2 x3 Z) : CT l (wdN τ) y_N_cofactor (.code y_N_cofactor b_N_cofactor 4 (some .int)) (xR 0) [.ref (τ.2.2 54), .int x1, .int x2, .int x3] N (zp_i N Z) := by
  subst_vars
  exact CT.of (by decide) (Nat.le_of_ble_eq_true rfl) hD (fun κ hl ha o => gw_sub (lv' := [(0, .ref (τ.2.2 54)), (1, .int x1), (2, .int x2), (3, .int x3)]) [0, 1, 2, 3] rfl (wk_N_cofactor_b0 o h))
def N_take_b0 (Z : Int32 → xF → Prop) (N : xF) : Prop := ∀ N_7 : xF, N_7 = xs N 14 8 ((N 14 8) - (1 : Int32)) → ((((N_7 14 6) = (-1 : Int32)) → (∀ N_25 : xF, N_25 = xs N_7 14 7 ((N_7 14 7) + (1 : Int32)) → (Z ((N_25 14 7) - (1 : Int32)) N_25))) ∧ (¬ ((N_7 14 6) = (-1 : Int32)) → (∀ x1_39 : Int32, x1_39 = N_7 14 6 → (vp_in x1_39 262144 ∧ (∀ N_47 : xF, N_47 = xs N_7 14 6 (N_7 3 x1_39.toNatClampNeg) → (Z x1_39 N_47))))))
set_option maxRecDepth 10000 in
theorem wk_N_take_b0 {κ : Cx} {τ : xT} {Z : Int32 → xF → Prop} {N : xF} (o : OKc κ (wdN τ) 2 b_N_take "StateExplorer$Nodes" (some .int) (xR 0)) (h : N_take_b0 Z N) : GW κ (wdN τ) 2 (0, 0) (xMQ κ (wdN τ) (xR 0) (zg_i Z)) N 0 [(0, .ref (τ.2.2 54))] [] := by
  unfold N_take_b0 at h
  refine gw_aload_n (pc := 0) o d_N_take_0 rfl 0 rfl ?_
  refine gw_dup (pc := 1) o d_N_take_1 rfl ?_
  refine gN_get_spare (pc := 2) o q_42 d_N_take_2 ?_
  refine gw_iconst (pc := 5) (v := (1 : Int32)) o d_N_take_5 (by decide) ?_
  refine gw_isub (pc := 6) o d_N_take_6 ?_
  refine gN_put_spare (pc := 7) o q_42 d_N_take_7 (fun N_7 eN_7 => ?_)
  have h := h N_7 eN_7
  refine gw_aload_n (pc := 10) o d_N_take_10 rfl 0 rfl ?_
  refine gN_get_free (pc := 11) o q_40 d_N_take_11 ?_
  refine gw_iconst (pc := 14) (v := (-1 : Int32)) o d_N_take_14 (by decide) ?_
  refine gw_icmp_ne (pc := 15) (tgt := 35) o d_N_take_15 (by decide) (fun hc => ?_) (fun hc => ?_)
  · have h := h.2 hc
    refine gw_aload_n (pc := 35) o d_N_take_35 rfl 0 rfl ?_
    refine gN_get_free (pc := 36) o q_40 d_N_take_36 ?_
    refine gw_topi (fun x1_39 ex1_39 => ?_)
    have h := h x1_39 ex1_39
    refine gw_istore_n (pc := 39) (lv' := [(1, .int x1_39), (0, .ref (τ.2.2 54))]) o d_N_take_39 rfl (by decide) rfl ?_
    refine gw_aload_n (pc := 40) o d_N_take_40 rfl 1 rfl ?_
    refine gw_aload_n (pc := 41) o d_N_take_41 rfl 1 rfl ?_
    refine gN_get_next (pc := 42) o q_37 d_N_take_42 ?_
    refine gw_iload_n (pc := 45) o d_N_take_45 rfl 0 rfl ?_
    have hi := h.1
    have h := h.2
    refine gN_ald_next (pc := 46) o hi d_N_take_46 ?_
    refine gN_put_free (pc := 47) o q_40 d_N_take_47 (fun N_47 eN_47 => ?_)
    have h := h N_47 eN_47
    refine gw_iload_n (pc := 50) o d_N_take_50 rfl 0 rfl ?_
    exact gw_iret (pc := 51) o ⟨Nat.le_refl _, Nat.le_refl _⟩ (zg_i.mk h) d_N_take_51
  · have h := h.1 hc
    refine gw_aload_n (pc := 18) o d_N_take_18 rfl 0 rfl ?_
    refine gw_dup (pc := 19) o d_N_take_19 rfl ?_
    refine gN_get_used (pc := 20) o q_41 d_N_take_20 ?_
    refine gw_iconst (pc := 23) (v := (1 : Int32)) o d_N_take_23 (by decide) ?_
    refine gw_iadd (pc := 24) o d_N_take_24 ?_
    refine gN_put_used (pc := 25) o q_41 d_N_take_25 (fun N_25 eN_25 => ?_)
    have h := h N_25 eN_25
    refine gw_aload_n (pc := 28) o d_N_take_28 rfl 0 rfl ?_
    refine gN_get_used (pc := 29) o q_41 d_N_take_29 ?_
    refine gw_iconst (pc := 32) (v := (1 : Int32)) o d_N_take_32 (by decide) ?_
    refine gw_isub (pc := 33) o d_N_take_33 ?_
    exact gw_iret (pc := 34) o ⟨Nat.le_refl _, Nat.le_refl _⟩ (zg_i.mk h) d_N_take_34
def w_N_take  (N : xF)  (Z : Int32 → xF → Prop) : Prop := N_take_b0  Z N
theorem ct_N_take {l : Launch} {τ : xT} {N : xF}  {Z : Int32 → xF → Prop} (hD : xD (wdN τ)) (h : w_N_take  N Z) : CT l (wdN τ) y_N_take (.code y_N_take b_N_take 2 (some .int)) (xR 0) [.ref (τ.2.2 54)] N (zg_i Z) := by
  subst_vars
  exact CT.of (by decide) (Nat.le_of_ble_eq_true rfl) hD (fun κ hl ha o => gw_sub (lv' := [(0, .ref (τ.2.2 54))]) [0] rfl (wk_N_take_b0 o h))
def N_node_b64 (Z : Int32 → xF → Prop) (k25 : Int32 → Prop) (N : xF) (x1 : Int32) (x2 : Int32) (x3 : Int32) (x4 : Int32) (x5 : Int32) : Prop := vp_in x5 262144 ∧ (∀ x5_71 : Int32, x5_71 = N 3 x5.toNatClampNeg → (k25 x5_71))
set_option maxRecDepth 10000 in
theorem wk_N_node_b64 {κ : Cx} {τ : xT} {Z : Int32 → xF → Prop} {k25 : Int32 → Prop} {N : xF} {x1 : Int32} {x2 : Int32} {x3 : Int32} {x4 : Int32} {x5 : Int32} (o : OKc κ (wdN τ) 6 b_N_node "StateExplorer$Nodes" (some .int) (xR 2)) (hk25 : ∀ (x5 : Int32), k25 x5 → GW κ (wdN τ) 6 (0, 0) (xMQ κ (wdN τ) (xR 2) (zg_i Z)) N 25 [(0, .ref (τ.2.2 54)), (1, .int x1), (2, .int x2), (3, .int x3), (4, .int x4), (5, .int x5)] []) (h : N_node_b64 Z k25 N x1 x2 x3 x4 x5) : GW κ (wdN τ) 6 (0, 0) (xMQ κ (wdN τ) (xR 2) (zg_i Z)) N 64 [(0, .ref (τ.2.2 54)), (1, .int x1), (2, .int x2), (3, .int x3), (4, .int x4), (5, .int x5)] [] := by
  unfold N_node_b64 at h
  refine gw_aload_n (pc := 64) o d_N_node_64 rfl 0 rfl ?_
  refine gN_get_next (pc := 65) o q_37 d_N_node_65 ?_
  refine gw_iload (pc := 68) o d_N_node_68 5 rfl ?_
  have hi := h.1
  have h := h.2
  refine gN_ald_next (pc := 70) o hi d_N_node_70 ?_
  refine gw_topi (fun x5_71 ex5_71 => ?_)
  have h := h x5_71 ex5_71
  refine gw_istore (pc := 71) (lv' := [(5, .int x5_71), (0, .ref (τ.2.2 54)), (1, .int x1), (2, .int x2), (3, .int x3), (4, .int x4)]) o d_N_node_71 (by decide) rfl ?_
  refine gw_goto (pc := 73) (tgt := 25) o d_N_node_73 (by decide) ?_
  exact gw_sub (lv' := [(0, .ref (τ.2.2 54)), (1, .int x1), (2, .int x2), (3, .int x3), (4, .int x4), (5, .int x5_71)]) [1, 2, 3, 4, 5, 0] rfl (hk25 _ h)
def N_node_b76 (Z : Int32 → xF → Prop) (N : xF) (x1 : Int32) (x2 : Int32) (x3 : Int32) (x4 : Int32) (x5 : Int32) : Prop := ((x5 = (-1 : Int32)) → (w_N_take N (fun r86 N_86 => vp_in r86 262144 ∧ (∀ N_99 : xF, N_99 = xs N_86 0 r86.toNatClampNeg (x1.toInt8.toInt32) → (vp_in r86 262144 ∧ (∀ N_107 : xF, N_107 = xs N_99 1 r86.toNatClampNeg x2 → (vp_in r86 262144 ∧ (∀ N_115 : xF, N_115 = xs N_107 2 r86.toNatClampNeg x3 → (vp_in x4 32768 ∧ (vp_in r86 262144 ∧ (∀ N_129 : xF, N_129 = xs N_115 3 r86.toNatClampNeg (N_115 4 x4.toNatClampNeg) → (vp_in x4 32768 ∧ (∀ N_138 : xF, N_138 = xs N_129 4 x4.toNatClampNeg r86 → (Z r86 N_138)))))))))))))) ∧ (¬ (x5 = (-1 : Int32)) → (Z x5 N))
set_option maxRecDepth 10000 in
theorem wk_N_node_b76 {κ : Cx} {τ : xT} {Z : Int32 → xF → Prop} {N : xF} {x1 : Int32} {x2 : Int32} {x3 : Int32} {x4 : Int32} {x5 : Int32} (o : OKc κ (wdN τ) 6 b_N_node "StateExplorer$Nodes" (some .int) (xR 2)) (h : N_node_b76 Z N x1 x2 x3 x4 x5) : GW κ (wdN τ) 6 (0, 0) (xMQ κ (wdN τ) (xR 2) (zg_i Z)) N 76 [(0, .ref (τ.2.2 54)), (1, .int x1), (2, .int x2), (3, .int x3), (4, .int x4), (5, .int x5)] [] := by
  unfold N_node_b76 at h
  refine gw_iload (pc := 76) o d_N_node_76 5 rfl ?_
  refine gw_iconst (pc := 78) (v := (-1 : Int32)) o d_N_node_78 (by decide) ?_
  refine gw_icmp_eq (pc := 79) (tgt := 85) o d_N_node_79 (by decide) (fun hc => ?_) (fun hc => ?_)
  · have h := h.1 hc
    refine gw_aload_n (pc := 85) o d_N_node_85 rfl 0 rfl ?_
    refine gw_callV (pc := 86) (b := τ.2.2 54) (As := []) (st := []) o (ct_N_take o.hD h) mi_N_take q_232 q_234 qs_6 0 rfl rfl (xRo_of (by omega) (by decide)) rfl rfl (Nat.le_of_ble_eq_true rfl) d_N_node_86 (kk_g_i rfl (fun r86 N_86 h => ?_))
    refine gw_istore (pc := 89) (lv' := [(5, .int r86), (0, .ref (τ.2.2 54)), (1, .int x1), (2, .int x2), (3, .int x3), (4, .int x4)]) o d_N_node_89 (by decide) rfl ?_
    refine gw_aload_n (pc := 91) o d_N_node_91 rfl 1 rfl ?_
    refine gN_get_levels (pc := 92) o q_32 d_N_node_92 ?_
    refine gw_iload (pc := 95) o d_N_node_95 0 rfl ?_
    refine gw_iload_n (pc := 97) o d_N_node_97 rfl 2 rfl ?_
    refine gw_i2b (pc := 98) o d_N_node_98 ?_
    have hi := h.1
    have h := h.2
    refine gN_ast_levels (pc := 99) o hi (pk_vb _) d_N_node_99 (fun N_99 eN_99 => ?_)
    have h := h N_99 eN_99
    refine gw_aload_n (pc := 100) o d_N_node_100 rfl 1 rfl ?_
    refine gN_get_lows (pc := 101) o q_33 d_N_node_101 ?_
    refine gw_iload (pc := 104) o d_N_node_104 0 rfl ?_
    refine gw_iload_n (pc := 106) o d_N_node_106 rfl 3 rfl ?_
    have hi := h.1
    have h := h.2
    refine gN_ast_lows (pc := 107) o hi d_N_node_107 (fun N_107 eN_107 => ?_)
    have h := h N_107 eN_107
    refine gw_aload_n (pc := 108) o d_N_node_108 rfl 1 rfl ?_
    refine gN_get_highs (pc := 109) o q_35 d_N_node_109 ?_
    refine gw_iload (pc := 112) o d_N_node_112 0 rfl ?_
    refine gw_iload_n (pc := 114) o d_N_node_114 rfl 4 rfl ?_
    have hi := h.1
    have h := h.2
    refine gN_ast_highs (pc := 115) o hi d_N_node_115 (fun N_115 eN_115 => ?_)
    have h := h N_115 eN_115
    refine gw_aload_n (pc := 116) o d_N_node_116 rfl 1 rfl ?_
    refine gN_get_next (pc := 117) o q_37 d_N_node_117 ?_
    refine gw_iload (pc := 120) o d_N_node_120 0 rfl ?_
    refine gw_aload_n (pc := 122) o d_N_node_122 rfl 1 rfl ?_
    refine gN_get_chains (pc := 123) o q_38 d_N_node_123 ?_
    refine gw_iload (pc := 126) o d_N_node_126 5 rfl ?_
    have hi := h.1
    have h := h.2
    refine gN_ald_chains (pc := 128) o hi d_N_node_128 ?_
    have hi := h.1
    have h := h.2
    refine gN_ast_next (pc := 129) o hi d_N_node_129 (fun N_129 eN_129 => ?_)
    have h := h N_129 eN_129
    refine gw_aload_n (pc := 130) o d_N_node_130 rfl 1 rfl ?_
    refine gN_get_chains (pc := 131) o q_38 d_N_node_131 ?_
    refine gw_iload (pc := 134) o d_N_node_134 5 rfl ?_
    refine gw_iload (pc := 136) o d_N_node_136 0 rfl ?_
    have hi := h.1
    have h := h.2
    refine gN_ast_chains (pc := 138) o hi d_N_node_138 (fun N_138 eN_138 => ?_)
    have h := h N_138 eN_138
    refine gw_iload (pc := 139) o d_N_node_139 0 rfl ?_
    exact gw_iret (pc := 141) o ⟨Nat.le_refl _, Nat.le_refl _⟩ (zg_i.mk h) d_N_node_141
  · have h := h.2 hc
    refine gw_iload (pc := 82) o d_N_node_82 5 rfl ?_
    exact gw_iret (pc := 84) o ⟨Nat.le_refl _, Nat.le_refl _⟩ (zg_i.mk h) d_N_node_84
def N_node_b25 (Z : Int32 → xF → Prop) (k25 : Int32 → Prop) (N : xF) (x1 : Int32) (x2 : Int32) (x3 : Int32) (x4 : Int32) (x5 : Int32) : Prop := ((x5 = (-1 : Int32)) → (N_node_b76 Z N x1 x2 x3 x4 x5)) ∧ (¬ (x5 = (-1 : Int32)) → (vp_in x5 262144 ∧ ((((N 0 x5.toNatClampNeg) = x1) → (vp_in x5 262144 ∧ ((((N 1 x5.toNatClampNeg) = x2) → (vp_in x5 262144 ∧ ((((N 2 x5.toNatClampNeg) = x3) → (N_node_b76 Z N x1 x2 x3 x4 x5)) ∧ (¬ ((N 2 x5.toNatClampNeg) = x3) → (N_node_b64 Z k25 N x1 x2 x3 x4 x5))))) ∧ (¬ ((N 1 x5.toNatClampNeg) = x2) → (N_node_b64 Z k25 N x1 x2 x3 x4 x5))))) ∧ (¬ ((N 0 x5.toNatClampNeg) = x1) → (N_node_b64 Z k25 N x1 x2 x3 x4 x5)))))
set_option maxRecDepth 10000 in
theorem wk_N_node_b25 {κ : Cx} {τ : xT} {Z : Int32 → xF → Prop} {k25 : Int32 → Prop} {N : xF} {x1 : Int32} {x2 : Int32} {x3 : Int32} {x4 : Int32} {x5 : Int32} (o : OKc κ (wdN τ) 6 b_N_node "StateExplorer$Nodes" (some .int) (xR 2)) (hk25 : ∀ (x5 : Int32), k25 x5 → GW κ (wdN τ) 6 (0, 0) (xMQ κ (wdN τ) (xR 2) (zg_i Z)) N 25 [(0, .ref (τ.2.2 54)), (1, .int x1), (2, .int x2), (3, .int x3), (4, .int x4), (5, .int x5)] []) (h : N_node_b25 Z k25 N x1 x2 x3 x4 x5) : GW κ (wdN τ) 6 (0, 0) (xMQ κ (wdN τ) (xR 2) (zg_i Z)) N 25 [(0, .ref (τ.2.2 54)), (1, .int x1), (2, .int x2), (3, .int x3), (4, .int x4), (5, .int x5)] [] := by
  unfold N_node_b25 at h
  refine gw_iload (pc := 25) o d_N_node_25 5 rfl ?_
  refine gw_iconst (pc := 27) (v := (-1 : Int32)) o d_N_node_27 (by decide) ?_
  refine gw_icmp_eq (pc := 28) (tgt := 76) o d_N_node_28 (by decide) (fun hc => ?_) (fun hc => ?_)
  · have h := h.1 hc
    exact gw_sub (lv' := [(0, .ref (τ.2.2 54)), (1, .int x1), (2, .int x2), (3, .int x3), (4, .int x4), (5, .int x5)]) [0, 1, 2, 3, 4, 5] rfl (wk_N_node_b76 o h)
  · have h := h.2 hc
    refine gw_aload_n (pc := 31) o d_N_node_31 rfl 0 rfl ?_
    refine gN_get_levels (pc := 32) o q_32 d_N_node_32 ?_
    refine gw_iload (pc := 35) o d_N_node_35 5 rfl ?_
    have hi := h.1
    have h := h.2
    refine gN_ald_levels (pc := 37) o hi d_N_node_37 ?_
    refine gw_iload_n (pc := 38) o d_N_node_38 rfl 1 rfl ?_
    refine gw_icmp_ne (pc := 39) (tgt := 64) o d_N_node_39 (by decide) (fun hc => ?_) (fun hc => ?_)
    · have h := h.2 hc
      exact gw_sub (lv' := [(0, .ref (τ.2.2 54)), (1, .int x1), (2, .int x2), (3, .int x3), (4, .int x4), (5, .int x5)]) [0, 1, 2, 3, 4, 5] rfl (wk_N_node_b64 o hk25 h)
    · have h := h.1 hc
      refine gw_aload_n (pc := 42) o d_N_node_42 rfl 0 rfl ?_
      refine gN_get_lows (pc := 43) o q_33 d_N_node_43 ?_
      refine gw_iload (pc := 46) o d_N_node_46 5 rfl ?_
      have hi := h.1
      have h := h.2
      refine gN_ald_lows (pc := 48) o hi d_N_node_48 ?_
      refine gw_iload_n (pc := 49) o d_N_node_49 rfl 2 rfl ?_
      refine gw_icmp_ne (pc := 50) (tgt := 64) o d_N_node_50 (by decide) (fun hc => ?_) (fun hc => ?_)
      · have h := h.2 hc
        exact gw_sub (lv' := [(0, .ref (τ.2.2 54)), (1, .int x1), (2, .int x2), (3, .int x3), (4, .int x4), (5, .int x5)]) [0, 1, 2, 3, 4, 5] rfl (wk_N_node_b64 o hk25 h)
      · have h := h.1 hc
        refine gw_aload_n (pc := 53) o d_N_node_53 rfl 0 rfl ?_
        refine gN_get_highs (pc := 54) o q_35 d_N_node_54 ?_
        refine gw_iload (pc := 57) o d_N_node_57 5 rfl ?_
        have hi := h.1
        have h := h.2
        refine gN_ald_highs (pc := 59) o hi d_N_node_59 ?_
        refine gw_iload_n (pc := 60) o d_N_node_60 rfl 3 rfl ?_
        refine gw_icmp_eq (pc := 61) (tgt := 76) o d_N_node_61 (by decide) (fun hc => ?_) (fun hc => ?_)
        · have h := h.1 hc
          exact gw_sub (lv' := [(0, .ref (τ.2.2 54)), (1, .int x1), (2, .int x2), (3, .int x3), (4, .int x4), (5, .int x5)]) [0, 1, 2, 3, 4, 5] rfl (wk_N_node_b76 o h)
        · have h := h.2 hc
          exact gw_sub (lv' := [(0, .ref (τ.2.2 54)), (1, .int x1), (2, .int x2), (3, .int x3), (4, .int x4), (5, .int x5)]) [0, 1, 2, 3, 4, 5] rfl (wk_N_node_b64 o hk25 h)
def N_node_L25 (Z : Int32 → xF → Prop) (N : xF) (x1 : Int32) (x2 : Int32) (x3 : Int32) (x4 : Int32) (x5 : Int32) : Prop := LOOP1 (fun k25 x5 => N_node_b25 Z k25 N x1 x2 x3 x4 x5) x5
theorem wk_N_node_L25 {κ : Cx} {τ : xT} {Z : Int32 → xF → Prop} {N : xF} {x1 : Int32} {x2 : Int32} {x3 : Int32} {x4 : Int32} {x5 : Int32} (o : OKc κ (wdN τ) 6 b_N_node "StateExplorer$Nodes" (some .int) (xR 2)) (h : N_node_L25 Z N x1 x2 x3 x4 x5) : GW κ (wdN τ) 6 (0, 0) (xMQ κ (wdN τ) (xR 2) (zg_i Z)) N 25 [(0, .ref (τ.2.2 54)), (1, .int x1), (2, .int x2), (3, .int x3), (4, .int x4), (5, .int x5)] [] := by
  unfold N_node_L25 at h
  exact LOOP1.use (G := fun x5 => GW κ (wdN τ) 6 (0, 0) (xMQ κ (wdN τ) (xR 2) (zg_i Z)) N 25 [(0, .ref (τ.2.2 54)), (1, .int x1), (2, .int x2), (3, .int x3), (4, .int x4), (5, .int x5)] []) (fun k25 x5 hk25 h => wk_N_node_b25 o hk25 h) h
def N_node_b0 (Z : Int32 → xF → Prop) (N : xF) (x1 : Int32) (x2 : Int32) (x3 : Int32) : Prop := ((x2 = x3) → (Z x2 N)) ∧ (¬ (x2 = x3) → (w_N_chain N x1 x2 x3 (fun r11 => vp_in r11 32768 ∧ (∀ x5_23 : Int32, x5_23 = N 4 r11.toNatClampNeg → (N_node_L25 Z N x1 x2 x3 r11 x5_23)))))
set_option maxRecDepth 10000 in
theorem wk_N_node_b0 {κ : Cx} {τ : xT} {Z : Int32 → xF → Prop} {N : xF} {x1 : Int32} {x2 : Int32} {x3 : Int32} (o : OKc κ (wdN τ) 6 b_N_node "StateExplorer$Nodes" (some .int) (xR 2)) (h : N_node_b0 Z N x1 x2 x3) : GW κ (wdN τ) 6 (0, 0) (xMQ κ (wdN τ) (xR 2) (zg_i Z)) N 0 [(0, .ref (τ.2.2 54)), (1, .int x1), (2, .int x2), (3, .int x3)] [] := by
  unfold N_node_b0 at h
  refine gw_iload_n (pc := 0) o d_N_node_0 rfl 2 rfl ?_
  refine gw_iload_n (pc := 1) o d_N_node_1 rfl 3 rfl ?_
  refine gw_icmp_ne (pc := 2) (tgt := 7) o d_N_node_2 (by decide) (fun hc => ?_) (fun hc => ?_)
  · have h := h.2 hc
    refine gw_aload_n (pc := 7) o d_N_node_7 rfl 0 rfl ?_
    refine gw_iload_n (pc := 8) o d_N_node_8 rfl 1 rfl ?_
    refine gw_iload_n (pc := 9) o d_N_node_9 rfl 2 rfl ?_
    refine gw_iload_n (pc := 10) o d_N_node_10 rfl 3 rfl ?_
    refine gw_callV (pc := 11) (b := τ.2.2 54) (As := [.int x1, .int x2, .int x3]) (st := []) o (ct_N_chain o.hD h) mi_N_chain q_214 q_216 qs_5 0 rfl rfl (xRo_of (by omega) (by decide)) rfl rfl (Nat.le_of_ble_eq_true rfl) d_N_node_11 (kk_p_i rfl (fun r11 h => ?_))
    refine gw_istore (pc := 14) (lv' := [(4, .int r11), (0, .ref (τ.2.2 54)), (1, .int x1), (2, .int x2), (3, .int x3)]) o d_N_node_14 (by decide) rfl ?_
    refine gw_aload_n (pc := 16) o d_N_node_16 rfl 1 rfl ?_
    refine gN_get_chains (pc := 17) o q_38 d_N_node_17 ?_
    refine gw_iload (pc := 20) o d_N_node_20 0 rfl ?_
    have hi := h.1
    have h := h.2
    refine gN_ald_chains (pc := 22) o hi d_N_node_22 ?_
    refine gw_topi (fun x5_23 ex5_23 => ?_)
    have h := h x5_23 ex5_23
    refine gw_istore (pc := 23) (lv' := [(5, .int x5_23), (4, .int r11), (0, .ref (τ.2.2 54)), (1, .int x1), (2, .int x2), (3, .int x3)]) o d_N_node_23 (by decide) rfl ?_
    exact gw_sub (lv' := [(0, .ref (τ.2.2 54)), (1, .int x1), (2, .int x2), (3, .int x3), (4, .int r11), (5, .int x5_23)]) [2, 3, 4, 5, 1, 0] rfl (wk_N_node_L25 o h)
  · have h := h.1 hc
    refine gw_iload_n (pc := 5) o d_N_node_5 rfl 2 rfl ?_
    exact gw_iret (pc := 6) o ⟨Nat.le_refl _, Nat.le_refl _⟩ (zg_i.mk h) d_N_node_6
def w_N_node  (N : xF) (x1 : Int32) (x2 : Int32) (x3 : Int32) (Z : Int32 → xF → Prop) : Prop := N_node_b0  Z N x1 x2 x3
theorem ct_N_node {l : Launch} {τ : xT} {N : xF} {x1 : Int32} {x2 : Int32} {x3 : Int32} {Z : Int32 → xF → Prop} (hD : xD (wdN τ)) (h : w_N_node  N x1 x2 x3 Z) : CT l (wdN τ) y_N_node (.code y_N_node b_N_node 6 (some .int)) (xR 2) [.ref (τ.2.2 54), .int x1, .int x2, .int x3] N (zg_i Z) := by
  subst_vars
  exact CT.of (by decide) (Nat.le_of_ble_eq_true rfl) hD (fun κ hl ha o => gw_sub (lv' := [(0, .ref (τ.2.2 54)), (1, .int x1), (2, .int x2), (3, .int x3)]) [0, 1, 2, 3] rfl (wk_N_node_b0 o h))
def N_learn_b0 (Z : Int32 → xF → Prop) (N : xF) (x1 : Int32) (x2 : Int32) (x3 : Int32) (x4 : Int32) (x5 : Int32) : Prop := w_N_place N x1 x2 x3 x4 (fun r6 => vp_in r6 16384 ∧ (∀ N_19 : xF, N_19 = xs N 13 r6.toNatClampNeg (x1.toInt8.toInt32) → (vp_in r6 16384 ∧ (∀ N_27 : xF, N_27 = xs N_19 9 r6.toNatClampNeg x2 → (vp_in r6 16384 ∧ (∀ N_35 : xF, N_35 = xs N_27 10 r6.toNatClampNeg x3 → (vp_in r6 16384 ∧ (∀ N_44 : xF, N_44 = xs N_35 11 r6.toNatClampNeg x4 → (vp_in r6 16384 ∧ (∀ N_53 : xF, N_53 = xs N_44 12 r6.toNatClampNeg x5 → (Z x5 N_53)))))))))))
set_option maxRecDepth 10000 in
theorem wk_N_learn_b0 {κ : Cx} {τ : xT} {Z : Int32 → xF → Prop} {N : xF} {x1 : Int32} {x2 : Int32} {x3 : Int32} {x4 : Int32} {x5 : Int32} (o : OKc κ (wdN τ) 7 b_N_learn "StateExplorer$Nodes" (some .int) (xR 2)) (h : N_learn_b0 Z N x1 x2 x3 x4 x5) : GW κ (wdN τ) 7 (0, 0) (xMQ κ (wdN τ) (xR 2) (zg_i Z)) N 0 [(0, .ref (τ.2.2 54)), (1, .int x1), (2, .int x2), (3, .int x3), (4, .int x4), (5, .int x5)] [] := by
  unfold N_learn_b0 at h
  refine gw_aload_n (pc := 0) o d_N_learn_0 rfl 0 rfl ?_
  refine gw_iload_n (pc := 1) o d_N_learn_1 rfl 1 rfl ?_
  refine gw_iload_n (pc := 2) o d_N_learn_2 rfl 2 rfl ?_
  refine gw_iload_n (pc := 3) o d_N_learn_3 rfl 3 rfl ?_
  refine gw_iload (pc := 4) o d_N_learn_4 4 rfl ?_
  refine gw_callV (pc := 6) (b := τ.2.2 54) (As := [.int x1, .int x2, .int x3, .int x4]) (st := []) o (ct_N_place o.hD h) mi_N_place q_247 q_249 qs_8 0 rfl rfl (xRo_of (by omega) (by decide)) rfl rfl (Nat.le_of_ble_eq_true rfl) d_N_learn_6 (kk_p_i rfl (fun r6 h => ?_))
  refine gw_istore (pc := 9) (lv' := [(6, .int r6), (0, .ref (τ.2.2 54)), (1, .int x1), (2, .int x2), (3, .int x3), (4, .int x4), (5, .int x5)]) o d_N_learn_9 (by decide) rfl ?_
  refine gw_aload_n (pc := 11) o d_N_learn_11 rfl 1 rfl ?_
  refine gN_get_keyKinds (pc := 12) o q_47 d_N_learn_12 ?_
  refine gw_iload (pc := 15) o d_N_learn_15 0 rfl ?_
  refine gw_iload_n (pc := 17) o d_N_learn_17 rfl 2 rfl ?_
  refine gw_i2b (pc := 18) o d_N_learn_18 ?_
  have hi := h.1
  have h := h.2
  refine gN_ast_keyKinds (pc := 19) o hi (pk_vb _) d_N_learn_19 (fun N_19 eN_19 => ?_)
  have h := h N_19 eN_19
  refine gw_aload_n (pc := 20) o d_N_learn_20 rfl 1 rfl ?_
  refine gN_get_keyA (pc := 21) o q_43 d_N_learn_21 ?_
  refine gw_iload (pc := 24) o d_N_learn_24 0 rfl ?_
  refine gw_iload_n (pc := 26) o d_N_learn_26 rfl 3 rfl ?_
  have hi := h.1
  have h := h.2
  refine gN_ast_keyA (pc := 27) o hi d_N_learn_27 (fun N_27 eN_27 => ?_)
  have h := h N_27 eN_27
  refine gw_aload_n (pc := 28) o d_N_learn_28 rfl 1 rfl ?_
  refine gN_get_keyB (pc := 29) o q_44 d_N_learn_29 ?_
  refine gw_iload (pc := 32) o d_N_learn_32 0 rfl ?_
  refine gw_iload_n (pc := 34) o d_N_learn_34 rfl 4 rfl ?_
  have hi := h.1
  have h := h.2
  refine gN_ast_keyB (pc := 35) o hi d_N_learn_35 (fun N_35 eN_35 => ?_)
  have h := h N_35 eN_35
  refine gw_aload_n (pc := 36) o d_N_learn_36 rfl 1 rfl ?_
  refine gN_get_keyC (pc := 37) o q_45 d_N_learn_37 ?_
  refine gw_iload (pc := 40) o d_N_learn_40 0 rfl ?_
  refine gw_iload (pc := 42) o d_N_learn_42 5 rfl ?_
  have hi := h.1
  have h := h.2
  refine gN_ast_keyC (pc := 44) o hi d_N_learn_44 (fun N_44 eN_44 => ?_)
  have h := h N_44 eN_44
  refine gw_aload_n (pc := 45) o d_N_learn_45 rfl 1 rfl ?_
  refine gN_get_results (pc := 46) o q_46 d_N_learn_46 ?_
  refine gw_iload (pc := 49) o d_N_learn_49 0 rfl ?_
  refine gw_iload (pc := 51) o d_N_learn_51 6 rfl ?_
  have hi := h.1
  have h := h.2
  refine gN_ast_results (pc := 53) o hi d_N_learn_53 (fun N_53 eN_53 => ?_)
  have h := h N_53 eN_53
  refine gw_iload (pc := 54) o d_N_learn_54 6 rfl ?_
  exact gw_iret (pc := 56) o ⟨Nat.le_refl _, Nat.le_refl _⟩ (zg_i.mk h) d_N_learn_56
def w_N_learn  (N : xF) (x1 : Int32) (x2 : Int32) (x3 : Int32) (x4 : Int32) (x5 : Int32) (Z : Int32 → xF → Prop) : Prop := N_learn_b0  Z N x1 x2 x3 x4 x5
theorem ct_N_learn {l : Launch} {τ : xT} {N : xF} {x1 : Int32} {x2 : Int32} {x3 : Int32} {x4 : Int32} {x5 : Int32} {Z : Int32 → xF → Prop} (hD : xD (wdN τ)) (h : w_N_learn  N x1 x2 x3 x4 x5 Z) : CT l (wdN τ) y_N_learn (.code y_N_learn b_N_learn 7 (some .int)) (xR 2) [.ref (τ.2.2 54), .int x1, .int x2, .int x3, .int x4, .int x5] N (zg_i Z) := by
  subst_vars
  exact CT.of (by decide) (Nat.le_of_ble_eq_true rfl) hD (fun κ hl ha o => gw_sub (lv' := [(0, .ref (τ.2.2 54)), (1, .int x1), (2, .int x2), (3, .int x3), (4, .int x4), (5, .int x5)]) [0, 1, 2, 3, 4, 5] rfl (wk_N_learn_b0 o h))
def X_chosen_b10 (f : xF → Int32 → Int32 → Int32 → (Int32 → xF → Prop) → Prop) (Z : Int32 → xF → Prop) (N : xF) (x2 : Int32) : Prop := Z x2 N
set_option maxRecDepth 10000 in
theorem wk_X_chosen_b10 {κ : Cx} {τ : xT} {d : Nat} {f : xF → Int32 → Int32 → Int32 → (Int32 → xF → Prop) → Prop} {Z : Int32 → xF → Prop} {N : xF} {x2 : Int32} (o : OKc κ (wdN τ) 8 b_X_chosen "StateExplorer" (some .int) (xR (3 + d + 1))) (hf : ∀ (N : xF) (x1 : Int32) (x2 : Int32) (x3 : Int32) (Z : Int32 → xF → Prop), f N x1 x2 x3 Z → CT (kL κ) (wdN τ) y_X_chosen (.code y_X_chosen b_X_chosen 8 (some .int)) (xR (3 + d)) [.ref (τ.2.2 54), .int x1, .int x2, .int x3] N (zg_i Z)) (h : X_chosen_b10 f Z N x2) : GW κ (wdN τ) 8 (0, 0) (xMQ κ (wdN τ) (xR (3 + d + 1)) (zg_i Z)) N 10 [(2, .int x2)] [] := by
  unfold X_chosen_b10 at h
  refine gw_iload_n (pc := 10) o d_X_chosen_10 rfl 0 rfl ?_
  exact gw_iret (pc := 11) o ⟨Nat.le_refl _, Nat.le_refl _⟩ (zg_i.mk h) d_X_chosen_11
def X_chosen_b29 (f : xF → Int32 → Int32 → Int32 → (Int32 → xF → Prop) → Prop) (Z : Int32 → xF → Prop) (N : xF) (x1 : Int32) (x2 : Int32) (x3 : Int32) : Prop := w_N_known N (0 : Int32) x1 x2 x3 (fun r34 => ((r34 = (-1 : Int32)) → (w_X_first N x1 x2 x3 (fun r52 => w_N_cofactor N x1 r52 (0 : Int32) (fun r63 => w_N_cofactor N x2 r52 (0 : Int32) (fun r71 => w_N_cofactor N x3 r52 (0 : Int32) (fun r79 => f N r63 r71 r79 (fun r82 N_82 => w_N_cofactor N_82 x1 r52 (1 : Int32) (fun r93 => w_N_cofactor N_82 x2 r52 (1 : Int32) (fun r101 => w_N_cofactor N_82 x3 r52 (1 : Int32) (fun r109 => f N_82 r93 r101 r109 (fun r112 N_112 => w_N_node N_112 r52 r82 r112 (fun r129 N_129 => w_N_learn N_129 (0 : Int32) x1 x2 x3 r129 (fun r132 N_132 => Z r132 N_132))))))))))))) ∧ (¬ (r34 = (-1 : Int32)) → (Z r34 N)))
set_option maxRecDepth 10000 in
theorem wk_X_chosen_b29 {κ : Cx} {τ : xT} {d : Nat} {f : xF → Int32 → Int32 → Int32 → (Int32 → xF → Prop) → Prop} {Z : Int32 → xF → Prop} {N : xF} {x1 : Int32} {x2 : Int32} {x3 : Int32} (o : OKc κ (wdN τ) 8 b_X_chosen "StateExplorer" (some .int) (xR (3 + d + 1))) (hf : ∀ (N : xF) (x1 : Int32) (x2 : Int32) (x3 : Int32) (Z : Int32 → xF → Prop), f N x1 x2 x3 Z → CT (kL κ) (wdN τ) y_X_chosen (.code y_X_chosen b_X_chosen 8 (some .int)) (xR (3 + d)) [.ref (τ.2.2 54), .int x1, .int x2, .int x3] N (zg_i Z)) (h : X_chosen_b29 f Z N x1 x2 x3) : GW κ (wdN τ) 8 (0, 0) (xMQ κ (wdN τ) (xR (3 + d + 1)) (zg_i Z)) N 29 [(0, .ref (τ.2.2 54)), (1, .int x1), (2, .int x2), (3, .int x3)] [] := by
  unfold X_chosen_b29 at h
  refine gw_aload_n (pc := 29) o d_X_chosen_29 rfl 0 rfl ?_
  refine gw_iconst (pc := 30) (v := (0 : Int32)) o d_X_chosen_30 (by decide) ?_
  refine gw_iload_n (pc := 31) o d_X_chosen_31 rfl 1 rfl ?_
  refine gw_iload_n (pc := 32) o d_X_chosen_32 rfl 2 rfl ?_
  refine gw_iload_n (pc := 33) o d_X_chosen_33 rfl 3 rfl ?_
  refine gw_callV (pc := 34) (b := τ.2.2 54) (As := [.int (0 : Int32), .int x1, .int x2, .int x3]) (st := []) o (ct_N_known o.hD h) mi_N_known q_243 q_244 q_245 0 rfl rfl (xRo_of (by omega) (by decide)) rfl rfl (Nat.le_of_ble_eq_true rfl) d_X_chosen_34 (kk_p_i rfl (fun r34 h => ?_))
  refine gw_istore (pc := 37) (lv' := [(4, .int r34), (0, .ref (τ.2.2 54)), (1, .int x1), (2, .int x2), (3, .int x3)]) o d_X_chosen_37 (by decide) rfl ?_
  refine gw_iload (pc := 39) o d_X_chosen_39 0 rfl ?_
  refine gw_iconst (pc := 41) (v := (-1 : Int32)) o d_X_chosen_41 (by decide) ?_
  refine gw_icmp_eq (pc := 42) (tgt := 48) o d_X_chosen_42 (by decide) (fun hc => ?_) (fun hc => ?_)
  · have h := h.1 hc
    refine gw_aload_n (pc := 48) o d_X_chosen_48 rfl 1 rfl ?_
    refine gw_iload_n (pc := 49) o d_X_chosen_49 rfl 2 rfl ?_
    refine gw_iload_n (pc := 50) o d_X_chosen_50 rfl 3 rfl ?_
    refine gw_iload_n (pc := 51) o d_X_chosen_51 rfl 4 rfl ?_
    refine gw_callS (pc := 52) (As := [.ref (τ.2.2 54), .int x1, .int x2, .int x3]) (st := []) o (ct_X_first o.hD h) mi_X_first q_251 q_252 (xRo_of (by omega) (by decide)) rfl rfl (Nat.le_of_ble_eq_true rfl) d_X_chosen_52 (kk_p_i rfl (fun r52 h => ?_))
    refine gw_istore (pc := 55) (lv' := [(5, .int r52), (4, .int r34), (0, .ref (τ.2.2 54)), (1, .int x1), (2, .int x2), (3, .int x3)]) o d_X_chosen_55 (by decide) rfl ?_
    refine gw_aload_n (pc := 57) o d_X_chosen_57 rfl 2 rfl ?_
    refine gw_aload_n (pc := 58) o d_X_chosen_58 rfl 2 rfl ?_
    refine gw_iload_n (pc := 59) o d_X_chosen_59 rfl 3 rfl ?_
    refine gw_iload (pc := 60) o d_X_chosen_60 0 rfl ?_
    refine gw_iconst (pc := 62) (v := (0 : Int32)) o d_X_chosen_62 (by decide) ?_
    refine gw_callV (pc := 63) (b := τ.2.2 54) (As := [.int x1, .int r52, .int (0 : Int32)]) (st := [.ref (τ.2.2 54)]) o (ct_N_cofactor o.hD h) mi_N_cofactor q_261 q_262 q_263 0 rfl rfl (xRo_of (by omega) (by decide)) rfl rfl (Nat.le_of_ble_eq_true rfl) d_X_chosen_63 (kk_p_i rfl (fun r63 h => ?_))
    refine gw_aload_n (pc := 66) o d_X_chosen_66 rfl 2 rfl ?_
    refine gw_iload_n (pc := 67) o d_X_chosen_67 rfl 4 rfl ?_
    refine gw_iload (pc := 68) o d_X_chosen_68 0 rfl ?_
    refine gw_iconst (pc := 70) (v := (0 : Int32)) o d_X_chosen_70 (by decide) ?_
    refine gw_callV (pc := 71) (b := τ.2.2 54) (As := [.int x2, .int r52, .int (0 : Int32)]) (st := [.int r63, .ref (τ.2.2 54)]) o (ct_N_cofactor o.hD h) mi_N_cofactor q_261 q_262 q_263 0 rfl rfl (xRo_of (by omega) (by decide)) rfl rfl (Nat.le_of_ble_eq_true rfl) d_X_chosen_71 (kk_p_i rfl (fun r71 h => ?_))
    refine gw_aload_n (pc := 74) o d_X_chosen_74 rfl 2 rfl ?_
    refine gw_iload_n (pc := 75) o d_X_chosen_75 rfl 5 rfl ?_
    refine gw_iload (pc := 76) o d_X_chosen_76 0 rfl ?_
    refine gw_iconst (pc := 78) (v := (0 : Int32)) o d_X_chosen_78 (by decide) ?_
    refine gw_callV (pc := 79) (b := τ.2.2 54) (As := [.int x3, .int r52, .int (0 : Int32)]) (st := [.int r71, .int r63, .ref (τ.2.2 54)]) o (ct_N_cofactor o.hD h) mi_N_cofactor q_261 q_262 q_263 0 rfl rfl (xRo_of (by omega) (by decide)) rfl rfl (Nat.le_of_ble_eq_true rfl) d_X_chosen_79 (kk_p_i rfl (fun r79 h => ?_))
    refine gw_callS (pc := 82) (As := [.ref (τ.2.2 54), .int r63, .int r71, .int r79]) (st := []) o (hf _ _ _ _ _ h) mi_X_chosen q_240 q_241 (xRo_of (by omega) (by decide)) rfl rfl (Nat.le_of_ble_eq_true rfl) d_X_chosen_82 (kk_g_i rfl (fun r82 N_82 h => ?_))
    refine gw_istore (pc := 85) (lv' := [(6, .int r82), (5, .int r52), (4, .int r34), (0, .ref (τ.2.2 54)), (1, .int x1), (2, .int x2), (3, .int x3)]) o d_X_chosen_85 (by decide) rfl ?_
    refine gw_aload_n (pc := 87) o d_X_chosen_87 rfl 3 rfl ?_
    refine gw_aload_n (pc := 88) o d_X_chosen_88 rfl 3 rfl ?_
    refine gw_iload_n (pc := 89) o d_X_chosen_89 rfl 4 rfl ?_
    refine gw_iload (pc := 90) o d_X_chosen_90 1 rfl ?_
    refine gw_iconst (pc := 92) (v := (1 : Int32)) o d_X_chosen_92 (by decide) ?_
    refine gw_callV (pc := 93) (b := τ.2.2 54) (As := [.int x1, .int r52, .int (1 : Int32)]) (st := [.ref (τ.2.2 54)]) o (ct_N_cofactor o.hD h) mi_N_cofactor q_261 q_262 q_263 0 rfl rfl (xRo_of (by omega) (by decide)) rfl rfl (Nat.le_of_ble_eq_true rfl) d_X_chosen_93 (kk_p_i rfl (fun r93 h => ?_))
    refine gw_aload_n (pc := 96) o d_X_chosen_96 rfl 3 rfl ?_
    refine gw_iload_n (pc := 97) o d_X_chosen_97 rfl 5 rfl ?_
    refine gw_iload (pc := 98) o d_X_chosen_98 1 rfl ?_
    refine gw_iconst (pc := 100) (v := (1 : Int32)) o d_X_chosen_100 (by decide) ?_
    refine gw_callV (pc := 101) (b := τ.2.2 54) (As := [.int x2, .int r52, .int (1 : Int32)]) (st := [.int r93, .ref (τ.2.2 54)]) o (ct_N_cofactor o.hD h) mi_N_cofactor q_261 q_262 q_263 0 rfl rfl (xRo_of (by omega) (by decide)) rfl rfl (Nat.le_of_ble_eq_true rfl) d_X_chosen_101 (kk_p_i rfl (fun r101 h => ?_))
    refine gw_aload_n (pc := 104) o d_X_chosen_104 rfl 3 rfl ?_
    refine gw_iload_n (pc := 105) o d_X_chosen_105 rfl 6 rfl ?_
    refine gw_iload (pc := 106) o d_X_chosen_106 1 rfl ?_
    refine gw_iconst (pc := 108) (v := (1 : Int32)) o d_X_chosen_108 (by decide) ?_
    refine gw_callV (pc := 109) (b := τ.2.2 54) (As := [.int x3, .int r52, .int (1 : Int32)]) (st := [.int r101, .int r93, .ref (τ.2.2 54)]) o (ct_N_cofactor o.hD h) mi_N_cofactor q_261 q_262 q_263 0 rfl rfl (xRo_of (by omega) (by decide)) rfl rfl (Nat.le_of_ble_eq_true rfl) d_X_chosen_109 (kk_p_i rfl (fun r109 h => ?_))
    refine gw_callS (pc := 112) (As := [.ref (τ.2.2 54), .int r93, .int r101, .int r109]) (st := []) o (hf _ _ _ _ _ h) mi_X_chosen q_240 q_241 (xRo_of (by omega) (by decide)) rfl rfl (Nat.le_of_ble_eq_true rfl) d_X_chosen_112 (kk_g_i rfl (fun r112 N_112 h => ?_))
    refine gw_istore (pc := 115) (lv' := [(7, .int r112), (6, .int r82), (5, .int r52), (4, .int r34), (0, .ref (τ.2.2 54)), (1, .int x1), (2, .int x2), (3, .int x3)]) o d_X_chosen_115 (by decide) rfl ?_
    refine gw_aload_n (pc := 117) o d_X_chosen_117 rfl 4 rfl ?_
    refine gw_iconst (pc := 118) (v := (0 : Int32)) o d_X_chosen_118 (by decide) ?_
    refine gw_iload_n (pc := 119) o d_X_chosen_119 rfl 5 rfl ?_
    refine gw_iload_n (pc := 120) o d_X_chosen_120 rfl 6 rfl ?_
    refine gw_iload_n (pc := 121) o d_X_chosen_121 rfl 7 rfl ?_
    refine gw_aload_n (pc := 122) o d_X_chosen_122 rfl 4 rfl ?_
    refine gw_iload (pc := 123) o d_X_chosen_123 2 rfl ?_
    refine gw_iload (pc := 125) o d_X_chosen_125 1 rfl ?_
    refine gw_iload (pc := 127) o d_X_chosen_127 0 rfl ?_
    refine gw_callV (pc := 129) (b := τ.2.2 54) (As := [.int r52, .int r82, .int r112]) (st := [.int x3, .int x2, .int x1, .int (0 : Int32), .ref (τ.2.2 54)]) o (ct_N_node o.hD h) mi_N_node q_228 q_229 q_230 0 rfl rfl (xRo_of (by omega) (by decide)) rfl rfl (Nat.le_of_ble_eq_true rfl) d_X_chosen_129 (kk_g_i rfl (fun r129 N_129 h => ?_))
    refine gw_callV (pc := 132) (b := τ.2.2 54) (As := [.int (0 : Int32), .int x1, .int x2, .int x3, .int r129]) (st := []) o (ct_N_learn o.hD h) mi_N_learn q_265 q_266 q_267 0 rfl rfl (xRo_of (by omega) (by decide)) rfl rfl (Nat.le_of_ble_eq_true rfl) d_X_chosen_132 (kk_g_i rfl (fun r132 N_132 h => ?_))
    exact gw_iret (pc := 135) o ⟨Nat.le_refl _, Nat.le_refl _⟩ (zg_i.mk h) d_X_chosen_135
  · have h := h.2 hc
    refine gw_iload (pc := 45) o d_X_chosen_45 0 rfl ?_
    exact gw_iret (pc := 47) o ⟨Nat.le_refl _, Nat.le_refl _⟩ (zg_i.mk h) d_X_chosen_47
def X_chosen_b0 (f : xF → Int32 → Int32 → Int32 → (Int32 → xF → Prop) → Prop) (Z : Int32 → xF → Prop) (N : xF) (x1 : Int32) (x2 : Int32) (x3 : Int32) : Prop := ((x1 = (1 : Int32)) → (X_chosen_b10 f Z N x2)) ∧ (¬ (x1 = (1 : Int32)) → (((x2 = x3) → (X_chosen_b10 f Z N x2)) ∧ (¬ (x2 = x3) → (((x1 = 0) → (Z x3 N)) ∧ (¬ (x1 = 0) → (((x2 = (1 : Int32)) → (((x3 = 0) → (Z x1 N)) ∧ (¬ (x3 = 0) → (X_chosen_b29 f Z N x1 x2 x3)))) ∧ (¬ (x2 = (1 : Int32)) → (X_chosen_b29 f Z N x1 x2 x3))))))))
set_option maxRecDepth 10000 in
theorem wk_X_chosen_b0 {κ : Cx} {τ : xT} {d : Nat} {f : xF → Int32 → Int32 → Int32 → (Int32 → xF → Prop) → Prop} {Z : Int32 → xF → Prop} {N : xF} {x1 : Int32} {x2 : Int32} {x3 : Int32} (o : OKc κ (wdN τ) 8 b_X_chosen "StateExplorer" (some .int) (xR (3 + d + 1))) (hf : ∀ (N : xF) (x1 : Int32) (x2 : Int32) (x3 : Int32) (Z : Int32 → xF → Prop), f N x1 x2 x3 Z → CT (kL κ) (wdN τ) y_X_chosen (.code y_X_chosen b_X_chosen 8 (some .int)) (xR (3 + d)) [.ref (τ.2.2 54), .int x1, .int x2, .int x3] N (zg_i Z)) (h : X_chosen_b0 f Z N x1 x2 x3) : GW κ (wdN τ) 8 (0, 0) (xMQ κ (wdN τ) (xR (3 + d + 1)) (zg_i Z)) N 0 [(0, .ref (τ.2.2 54)), (1, .int x1), (2, .int x2), (3, .int x3)] [] := by
  unfold X_chosen_b0 at h
  refine gw_iload_n (pc := 0) o d_X_chosen_0 rfl 1 rfl ?_
  refine gw_iconst (pc := 1) (v := (1 : Int32)) o d_X_chosen_1 (by decide) ?_
  refine gw_icmp_eq (pc := 2) (tgt := 10) o d_X_chosen_2 (by decide) (fun hc => ?_) (fun hc => ?_)
  · have h := h.1 hc
    exact gw_sub (lv' := [(2, .int x2)]) [2] rfl (wk_X_chosen_b10 o hf h)
  · have h := h.2 hc
    refine gw_iload_n (pc := 5) o d_X_chosen_5 rfl 2 rfl ?_
    refine gw_iload_n (pc := 6) o d_X_chosen_6 rfl 3 rfl ?_
    refine gw_icmp_ne (pc := 7) (tgt := 12) o d_X_chosen_7 (by decide) (fun hc => ?_) (fun hc => ?_)
    · have h := h.2 hc
      refine gw_iload_n (pc := 12) o d_X_chosen_12 rfl 1 rfl ?_
      refine gw_if_ne (pc := 13) (tgt := 18) o d_X_chosen_13 (by decide) (fun hc => ?_) (fun hc => ?_)
      · have h := h.2 hc
        refine gw_iload_n (pc := 18) o d_X_chosen_18 rfl 2 rfl ?_
        refine gw_iconst (pc := 19) (v := (1 : Int32)) o d_X_chosen_19 (by decide) ?_
        refine gw_icmp_ne (pc := 20) (tgt := 29) o d_X_chosen_20 (by decide) (fun hc => ?_) (fun hc => ?_)
        · have h := h.2 hc
          exact gw_sub (lv' := [(0, .ref (τ.2.2 54)), (1, .int x1), (2, .int x2), (3, .int x3)]) [0, 1, 2, 3] rfl (wk_X_chosen_b29 o hf h)
        · have h := h.1 hc
          refine gw_iload_n (pc := 23) o d_X_chosen_23 rfl 3 rfl ?_
          refine gw_if_ne (pc := 24) (tgt := 29) o d_X_chosen_24 (by decide) (fun hc => ?_) (fun hc => ?_)
          · have h := h.2 hc
            exact gw_sub (lv' := [(0, .ref (τ.2.2 54)), (1, .int x1), (2, .int x2), (3, .int x3)]) [0, 1, 2, 3] rfl (wk_X_chosen_b29 o hf h)
          · have h := h.1 hc
            refine gw_iload_n (pc := 27) o d_X_chosen_27 rfl 1 rfl ?_
            exact gw_iret (pc := 28) o ⟨Nat.le_refl _, Nat.le_refl _⟩ (zg_i.mk h) d_X_chosen_28
      · have h := h.1 hc
        refine gw_iload_n (pc := 16) o d_X_chosen_16 rfl 3 rfl ?_
        exact gw_iret (pc := 17) o ⟨Nat.le_refl _, Nat.le_refl _⟩ (zg_i.mk h) d_X_chosen_17
    · have h := h.1 hc
      exact gw_sub (lv' := [(2, .int x2)]) [2] rfl (wk_X_chosen_b10 o hf h)
def w_X_chosen : Nat → xF → Int32 → Int32 → Int32 → (Int32 → xF → Prop) → Prop
  | 0, _, _, _, _, _ => False
  | d + 1, N, x1, x2, x3, Z => X_chosen_b0  (w_X_chosen d)  Z N x1 x2 x3
theorem ct_X_chosen {l : Launch} {τ : xT} (hD : xD (wdN τ)) : ∀ {d : Nat} {N : xF} {x1 : Int32} {x2 : Int32} {x3 : Int32} {Z : Int32 → xF → Prop} (h : w_X_chosen d N x1 x2 x3 Z), CT l (wdN τ) y_X_chosen (.code y_X_chosen b_X_chosen 8 (some .int)) (xR (3 + d)) [.ref (τ.2.2 54), .int x1, .int x2, .int x3] N (zg_i Z) := by
  intro d
  induction d with
  | zero => intro N x1 x2 x3 Z h; exact h.elim
  | succ d ih =>
    intro N x1 x2 x3 Z h
    exact CT.of (by decide) (Nat.le_of_ble_eq_true rfl) hD (fun κ hl ha o => gw_sub (lv' := [(0, .ref (τ.2.2 54)), (1, .int x1), (2, .int x2), (3, .int x3)]) [0, 1, 2, 3] rfl (wk_X_chosen_b0 o (fun _ _ _ _ _ h => hl ▸ ih h) h))
def X_variableOf_b0 (Z : Int32 → Prop) (x0 : Int32) : Prop := Z ((7 : Int32) - x0)
set_option maxRecDepth 10000 in
theorem wk_X_variableOf_b0 {κ : Cx} {σ : Type} {ω : xWd σ} {X : σ} {Z : Int32 → Prop} {x0 : Int32} (o : OKc κ ω 1 b_X_variableOf "StateExplorer" (some .int) (xR 0)) (h : X_variableOf_b0 Z x0) : GW κ ω 1 (0, 0) (xMQ κ ω (xR 0) (zp_i X Z)) X 0 [(0, .int x0)] [] := by
  unfold X_variableOf_b0 at h
  refine gw_bipush (pc := 0) (v := (7 : Int32)) o d_X_variableOf_0 (by decide) ?_
  refine gw_iload_n (pc := 2) o d_X_variableOf_2 rfl 0 rfl ?_
  refine gw_isub (pc := 3) o d_X_variableOf_3 ?_
  exact gw_iret (pc := 4) o ⟨Nat.le_refl _, Nat.le_refl _⟩ (zp_i.mk h) d_X_variableOf_4
def w_X_variableOf   (x0 : Int32) (Z : Int32 → Prop) : Prop := X_variableOf_b0  Z x0
theorem ct_X_variableOf {l : Launch} {σ : Type} {ω : xWd σ} {X : σ}  {x0 : Int32} {Z : Int32 → Prop} (hD : xD ω) (h : w_X_variableOf  x0 Z) : CT l ω y_X_variableOf (.code y_X_variableOf b_X_variableOf 1 (some .int)) (xR 0) [.int x0] X (zp_i X Z) := by
  subst_vars
  exact CT.of (by decide) (Nat.le_of_ble_eq_true rfl) hD (fun κ hl ha o => gw_sub (lv' := [(0, .int x0)]) [0] rfl (wk_X_variableOf_b0 o h))
def X_inputVariable_b0 (Z : Int32 → Prop) (x0 : Int32) : Prop := Z ((11 : Int32) - x0)
set_option maxRecDepth 10000 in
theorem wk_X_inputVariable_b0 {κ : Cx} {σ : Type} {ω : xWd σ} {X : σ} {Z : Int32 → Prop} {x0 : Int32} (o : OKc κ ω 1 b_X_inputVariable "StateExplorer" (some .int) (xR 0)) (h : X_inputVariable_b0 Z x0) : GW κ ω 1 (0, 0) (xMQ κ ω (xR 0) (zp_i X Z)) X 0 [(0, .int x0)] [] := by
  unfold X_inputVariable_b0 at h
  refine gw_bipush (pc := 0) (v := (11 : Int32)) o d_X_inputVariable_0 (by decide) ?_
  refine gw_iload_n (pc := 2) o d_X_inputVariable_2 rfl 0 rfl ?_
  refine gw_isub (pc := 3) o d_X_inputVariable_3 ?_
  exact gw_iret (pc := 4) o ⟨Nat.le_refl _, Nat.le_refl _⟩ (zp_i.mk h) d_X_inputVariable_4
def w_X_inputVariable   (x0 : Int32) (Z : Int32 → Prop) : Prop := X_inputVariable_b0  Z x0
theorem ct_X_inputVariable {l : Launch} {σ : Type} {ω : xWd σ} {X : σ}  {x0 : Int32} {Z : Int32 → Prop} (hD : xD ω) (h : w_X_inputVariable  x0 Z) : CT l ω y_X_inputVariable (.code y_X_inputVariable b_X_inputVariable 1 (some .int)) (xR 0) [.int x0] X (zp_i X Z) := by
  subst_vars
  exact CT.of (by decide) (Nat.le_of_ble_eq_true rfl) hD (fun κ hl ha o => gw_sub (lv' := [(0, .int x0)]) [0] rfl (wk_X_inputVariable_b0 o h))
def X_anyChoice_b0 (f : xF → Int32 → (Int32 → xF → Prop) → Prop) (Z : Int32 → xF → Prop) (N : xF) (x1 : Int32) : Prop := (((2 : Int32) ≤ x1) → (w_N_level N x1 (fun r9 => ((r9 < (8 : Int32)) → (w_N_known N (1 : Int32) x1 (0 : Int32) (0 : Int32) (fun r24 => ((r24 = (-1 : Int32)) → (w_N_level N x1 (fun r37 => vp_in x1 262144 ∧ (f N (N 1 x1.toNatClampNeg) (fun r55 N_55 => vp_in x1 262144 ∧ (f N_55 (N_55 2 x1.toNatClampNeg) (fun r65 N_65 => w_N_node N_65 r37 r55 r65 (fun r68 N_68 => w_N_learn N_68 (1 : Int32) x1 (0 : Int32) (0 : Int32) r68 (fun r71 N_71 => Z r71 N_71))))))))) ∧ (¬ (r24 = (-1 : Int32)) → (Z r24 N))))) ∧ (¬ (r9 < (8 : Int32)) → (Z (1 : Int32) N))))) ∧ (¬ ((2 : Int32) ≤ x1) → (Z x1 N))
set_option maxRecDepth 10000 in
theorem wk_X_anyChoice_b0 {κ : Cx} {τ : xT} {d : Nat} {f : xF → Int32 → (Int32 → xF → Prop) → Prop} {Z : Int32 → xF → Prop} {N : xF} {x1 : Int32} (o : OKc κ (wdN τ) 4 b_X_anyChoice "StateExplorer" (some .int) (xR (3 + d + 1))) (hf : ∀ (N : xF) (x1 : Int32) (Z : Int32 → xF → Prop), f N x1 Z → CT (kL κ) (wdN τ) y_X_anyChoice (.code y_X_anyChoice b_X_anyChoice 4 (some .int)) (xR (3 + d)) [.ref (τ.2.2 54), .int x1] N (zg_i Z)) (h : X_anyChoice_b0 f Z N x1) : GW κ (wdN τ) 4 (0, 0) (xMQ κ (wdN τ) (xR (3 + d + 1)) (zg_i Z)) N 0 [(0, .ref (τ.2.2 54)), (1, .int x1)] [] := by
  unfold X_anyChoice_b0 at h
  refine gw_iload_n (pc := 0) o d_X_anyChoice_0 rfl 1 rfl ?_
  refine gw_iconst (pc := 1) (v := (2 : Int32)) o d_X_anyChoice_1 (by decide) ?_
  refine gw_icmp_ge (pc := 2) (tgt := 7) o d_X_anyChoice_2 (by decide) (fun hc => ?_) (fun hc => ?_)
  · have h := h.1 hc
    refine gw_aload_n (pc := 7) o d_X_anyChoice_7 rfl 0 rfl ?_
    refine gw_iload_n (pc := 8) o d_X_anyChoice_8 rfl 1 rfl ?_
    refine gw_callV (pc := 9) (b := τ.2.2 54) (As := [.int x1]) (st := []) o (ct_N_level o.hD h) mi_N_level q_254 q_255 q_256 0 rfl rfl (xRo_of (by omega) (by decide)) rfl rfl (Nat.le_of_ble_eq_true rfl) d_X_anyChoice_9 (kk_p_i rfl (fun r9 h => ?_))
    refine gw_bipush (pc := 12) (v := (8 : Int32)) o d_X_anyChoice_12 (by decide) ?_
    refine gw_icmp_lt (pc := 14) (tgt := 19) o d_X_anyChoice_14 (by decide) (fun hc => ?_) (fun hc => ?_)
    · have h := h.1 hc
      refine gw_aload_n (pc := 19) o d_X_anyChoice_19 rfl 0 rfl ?_
      refine gw_iconst (pc := 20) (v := (1 : Int32)) o d_X_anyChoice_20 (by decide) ?_
      refine gw_iload_n (pc := 21) o d_X_anyChoice_21 rfl 1 rfl ?_
      refine gw_iconst (pc := 22) (v := (0 : Int32)) o d_X_anyChoice_22 (by decide) ?_
      refine gw_iconst (pc := 23) (v := (0 : Int32)) o d_X_anyChoice_23 (by decide) ?_
      refine gw_callV (pc := 24) (b := τ.2.2 54) (As := [.int (1 : Int32), .int x1, .int (0 : Int32), .int (0 : Int32)]) (st := []) o (ct_N_known o.hD h) mi_N_known q_243 q_244 q_245 0 rfl rfl (xRo_of (by omega) (by decide)) rfl rfl (Nat.le_of_ble_eq_true rfl) d_X_anyChoice_24 (kk_p_i rfl (fun r24 h => ?_))
      refine gw_istore_n (pc := 27) (lv' := [(2, .int r24), (0, .ref (τ.2.2 54)), (1, .int x1)]) o d_X_anyChoice_27 rfl (by decide) rfl ?_
      refine gw_iload_n (pc := 28) o d_X_anyChoice_28 rfl 0 rfl ?_
      refine gw_iconst (pc := 29) (v := (-1 : Int32)) o d_X_anyChoice_29 (by decide) ?_
      refine gw_icmp_eq (pc := 30) (tgt := 35) o d_X_anyChoice_30 (by decide) (fun hc => ?_) (fun hc => ?_)
      · have h := h.1 hc
        refine gw_aload_n (pc := 35) o d_X_anyChoice_35 rfl 1 rfl ?_
        refine gw_iload_n (pc := 36) o d_X_anyChoice_36 rfl 2 rfl ?_
        refine gw_callV (pc := 37) (b := τ.2.2 54) (As := [.int x1]) (st := []) o (ct_N_level o.hD h) mi_N_level q_254 q_255 q_256 0 rfl rfl (xRo_of (by omega) (by decide)) rfl rfl (Nat.le_of_ble_eq_true rfl) d_X_anyChoice_37 (kk_p_i rfl (fun r37 h => ?_))
        refine gw_istore_n (pc := 40) (lv' := [(3, .int r37), (2, .int r24), (0, .ref (τ.2.2 54)), (1, .int x1)]) o d_X_anyChoice_40 rfl (by decide) rfl ?_
        refine gw_aload_n (pc := 41) o d_X_anyChoice_41 rfl 2 rfl ?_
        refine gw_iconst (pc := 42) (v := (1 : Int32)) o d_X_anyChoice_42 (by decide) ?_
        refine gw_iload_n (pc := 43) o d_X_anyChoice_43 rfl 3 rfl ?_
        refine gw_iconst (pc := 44) (v := (0 : Int32)) o d_X_anyChoice_44 (by decide) ?_
        refine gw_iconst (pc := 45) (v := (0 : Int32)) o d_X_anyChoice_45 (by decide) ?_
        refine gw_aload_n (pc := 46) o d_X_anyChoice_46 rfl 2 rfl ?_
        refine gw_iload_n (pc := 47) o d_X_anyChoice_47 rfl 0 rfl ?_
        refine gw_aload_n (pc := 48) o d_X_anyChoice_48 rfl 2 rfl ?_
        refine gw_aload_n (pc := 49) o d_X_anyChoice_49 rfl 2 rfl ?_
        refine gN_getN_lows (pc := 50) o d_X_anyChoice_50 ?_
        refine gw_iload_n (pc := 53) o d_X_anyChoice_53 rfl 3 rfl ?_
        have hi := h.1
        have h := h.2
        refine gN_ald_lows (pc := 54) o hi d_X_anyChoice_54 ?_
        refine gw_callS (pc := 55) (As := [.ref (τ.2.2 54), .int (N 1 x1.toNatClampNeg)]) (st := [.int r37, .ref (τ.2.2 54), .int (0 : Int32), .int (0 : Int32), .int x1, .int (1 : Int32), .ref (τ.2.2 54)]) o (hf _ _ _ h) mi_X_anyChoice q_490 q_491 (xRo_of (by omega) (by decide)) rfl rfl (Nat.le_of_ble_eq_true rfl) d_X_anyChoice_55 (kk_g_i rfl (fun r55 N_55 h => ?_))
        refine gw_aload_n (pc := 58) o d_X_anyChoice_58 rfl 2 rfl ?_
        refine gw_aload_n (pc := 59) o d_X_anyChoice_59 rfl 2 rfl ?_
        refine gN_getN_highs (pc := 60) o d_X_anyChoice_60 ?_
        refine gw_iload_n (pc := 63) o d_X_anyChoice_63 rfl 3 rfl ?_
        have hi := h.1
        have h := h.2
        refine gN_ald_highs (pc := 64) o hi d_X_anyChoice_64 ?_
        refine gw_callS (pc := 65) (As := [.ref (τ.2.2 54), .int (N_55 2 x1.toNatClampNeg)]) (st := [.int r55, .int r37, .ref (τ.2.2 54), .int (0 : Int32), .int (0 : Int32), .int x1, .int (1 : Int32), .ref (τ.2.2 54)]) o (hf _ _ _ h) mi_X_anyChoice q_490 q_491 (xRo_of (by omega) (by decide)) rfl rfl (Nat.le_of_ble_eq_true rfl) d_X_anyChoice_65 (kk_g_i rfl (fun r65 N_65 h => ?_))
        refine gw_callV (pc := 68) (b := τ.2.2 54) (As := [.int r37, .int r55, .int r65]) (st := [.int (0 : Int32), .int (0 : Int32), .int x1, .int (1 : Int32), .ref (τ.2.2 54)]) o (ct_N_node o.hD h) mi_N_node q_228 q_229 q_230 0 rfl rfl (xRo_of (by omega) (by decide)) rfl rfl (Nat.le_of_ble_eq_true rfl) d_X_anyChoice_68 (kk_g_i rfl (fun r68 N_68 h => ?_))
        refine gw_callV (pc := 71) (b := τ.2.2 54) (As := [.int (1 : Int32), .int x1, .int (0 : Int32), .int (0 : Int32), .int r68]) (st := []) o (ct_N_learn o.hD h) mi_N_learn q_265 q_266 q_267 0 rfl rfl (xRo_of (by omega) (by decide)) rfl rfl (Nat.le_of_ble_eq_true rfl) d_X_anyChoice_71 (kk_g_i rfl (fun r71 N_71 h => ?_))
        exact gw_iret (pc := 74) o ⟨Nat.le_refl _, Nat.le_refl _⟩ (zg_i.mk h) d_X_anyChoice_74
      · have h := h.2 hc
        refine gw_iload_n (pc := 33) o d_X_anyChoice_33 rfl 0 rfl ?_
        exact gw_iret (pc := 34) o ⟨Nat.le_refl _, Nat.le_refl _⟩ (zg_i.mk h) d_X_anyChoice_34
    · have h := h.2 hc
      refine gw_iconst (pc := 17) (v := (1 : Int32)) o d_X_anyChoice_17 (by decide) ?_
      exact gw_iret (pc := 18) o ⟨Nat.le_refl _, Nat.le_refl _⟩ (zg_i.mk h) d_X_anyChoice_18
  · have h := h.2 hc
    refine gw_iload_n (pc := 5) o d_X_anyChoice_5 rfl 1 rfl ?_
    exact gw_iret (pc := 6) o ⟨Nat.le_refl _, Nat.le_refl _⟩ (zg_i.mk h) d_X_anyChoice_6
def w_X_anyChoice : Nat → xF → Int32 → (Int32 → xF → Prop) → Prop
  | 0, _, _, _ => False
  | d + 1, N, x1, Z => X_anyChoice_b0  (w_X_anyChoice d)  Z N x1
theorem ct_X_anyChoice {l : Launch} {τ : xT} (hD : xD (wdN τ)) : ∀ {d : Nat} {N : xF} {x1 : Int32} {Z : Int32 → xF → Prop} (h : w_X_anyChoice d N x1 Z), CT l (wdN τ) y_X_anyChoice (.code y_X_anyChoice b_X_anyChoice 4 (some .int)) (xR (3 + d)) [.ref (τ.2.2 54), .int x1] N (zg_i Z) := by
  intro d
  induction d with
  | zero => intro N x1 Z h; exact h.elim
  | succ d ih =>
    intro N x1 Z h
    exact CT.of (by decide) (Nat.le_of_ble_eq_true rfl) hD (fun κ hl ha o => gw_sub (lv' := [(0, .ref (τ.2.2 54)), (1, .int x1)]) [0, 1] rfl (wk_X_anyChoice_b0 o (fun _ _ _ h => hl ▸ ih h) h))
def X_bit_b14 (Z : Int32 → Prop) (s0 : Int32) : Prop := (s0 = 0 ∨ s0 = 1) ∧ (Z s0)
set_option maxRecDepth 10000 in
theorem wk_X_bit_b14 {κ : Cx} {σ : Type} {ω : xWd σ} {X : σ} {Z : Int32 → Prop} {s0 : Int32} (o : OKc κ ω 2 b_X_bit "StateExplorer" (some .boolean) (xR 0)) (h : X_bit_b14 Z s0) : GW κ ω 2 (0, 0) (xMQ κ ω (xR 0) (zp_i X Z)) X 14 [] [.int s0] := by
  unfold X_bit_b14 at h
  exact gw_zret (pc := 14) o ⟨Nat.le_refl _, Nat.le_refl _⟩ h.1 (zp_i.mk h.2) d_X_bit_14
def X_bit_b0 (Z : Int32 → Prop) (x0 : Int32) (x1 : Int32) : Prop := ((((x0 >>> (x1 &&& 31)) &&& (1 : Int32)) = (1 : Int32)) → (X_bit_b14 Z (1 : Int32))) ∧ (¬ (((x0 >>> (x1 &&& 31)) &&& (1 : Int32)) = (1 : Int32)) → (X_bit_b14 Z (0 : Int32)))
set_option maxRecDepth 10000 in
theorem wk_X_bit_b0 {κ : Cx} {σ : Type} {ω : xWd σ} {X : σ} {Z : Int32 → Prop} {x0 : Int32} {x1 : Int32} (o : OKc κ ω 2 b_X_bit "StateExplorer" (some .boolean) (xR 0)) (h : X_bit_b0 Z x0 x1) : GW κ ω 2 (0, 0) (xMQ κ ω (xR 0) (zp_i X Z)) X 0 [(0, .int x0), (1, .int x1)] [] := by
  unfold X_bit_b0 at h
  refine gw_iload_n (pc := 0) o d_X_bit_0 rfl 0 rfl ?_
  refine gw_iload_n (pc := 1) o d_X_bit_1 rfl 1 rfl ?_
  refine gw_ishr (pc := 2) o d_X_bit_2 ?_
  refine gw_iconst (pc := 3) (v := (1 : Int32)) o d_X_bit_3 (by decide) ?_
  refine gw_iand (pc := 4) o d_X_bit_4 ?_
  refine gw_iconst (pc := 5) (v := (1 : Int32)) o d_X_bit_5 (by decide) ?_
  refine gw_icmp_ne (pc := 6) (tgt := 13) o d_X_bit_6 (by decide) (fun hc => ?_) (fun hc => ?_)
  · have h := h.2 hc
    refine gw_iconst (pc := 13) (v := (0 : Int32)) o d_X_bit_13 (by decide) ?_
    exact gw_sub (lv' := []) [] rfl (wk_X_bit_b14 o h)
  · have h := h.1 hc
    refine gw_iconst (pc := 9) (v := (1 : Int32)) o d_X_bit_9 (by decide) ?_
    refine gw_goto (pc := 10) (tgt := 14) o d_X_bit_10 (by decide) ?_
    exact gw_sub (lv' := []) [] rfl (wk_X_bit_b14 o h)
def w_X_bit   (x0 : Int32) (x1 : Int32) (Z : Int32 → Prop) : Prop := X_bit_b0  Z x0 x1
theorem ct_X_bit {l : Launch} {σ : Type} {ω : xWd σ} {X : σ}  {x0 : Int32} {x1 : Int32} {Z : Int32 → Prop} (hD : xD ω) (h : w_X_bit  x0 x1 Z) : CT l ω y_X_bit (.code y_X_bit b_X_bit 2 (some .boolean)) (xR 0) [.int x0, .int x1] X (zp_i X Z) := by
  subst_vars
  exact CT.of (by decide) (Nat.le_of_ble_eq_true rfl) hD (fun κ hl ha o => gw_sub (lv' := [(0, .int x0), (1, .int x1)]) [0, 1] rfl (wk_X_bit_b0 o h))
def X_points_b0 (f : xF → Int32 → Int32 → (Int32 → Prop) → Prop) (Z : Int32 → Prop) (N : xF) (x1 : Int32) (x2 : Int32) : Prop := ((x1 = 0) → (Z (0 : Int32))) ∧ (¬ (x1 = 0) → (w_N_level N x1 (fun r9 => ∀ x3_15 : Int32, x3_15 = (1 : Int32) <<< ((r9 - x2) &&& 31) → (((x1 = (1 : Int32)) → (Z x3_15)) ∧ (¬ (x1 = (1 : Int32)) → (w_N_level N x1 (fun r25 => ∀ x4_30 : Int32, x4_30 = r25 + (1 : Int32) → (vp_in x1 262144 ∧ (f N (N 1 x1.toNatClampNeg) x4_30 (fun r42 => vp_in x1 262144 ∧ (f N (N 2 x1.toNatClampNeg) x4_30 (fun r54 => Z (x3_15 * (r42 + r54))))))))))))))
set_option maxRecDepth 10000 in
theorem wk_X_points_b0 {κ : Cx} {τ : xT} {d : Nat} {f : xF → Int32 → Int32 → (Int32 → Prop) → Prop} {Z : Int32 → Prop} {N : xF} {x1 : Int32} {x2 : Int32} (o : OKc κ (wdN τ) 5 b_X_points "StateExplorer" (some .int) (xR (1 + d + 1))) (hf : ∀ (N : xF) (x1 : Int32) (x2 : Int32) (Z : Int32 → Prop), f N x1 x2 Z → CT (kL κ) (wdN τ) y_X_points (.code y_X_points b_X_points 5 (some .int)) (xR (1 + d)) [.ref (τ.2.2 54), .int x1, .int x2] N (zp_i N Z)) (h : X_points_b0 f Z N x1 x2) : GW κ (wdN τ) 5 (0, 0) (xMQ κ (wdN τ) (xR (1 + d + 1)) (zp_i N Z)) N 0 [(0, .ref (τ.2.2 54)), (1, .int x1), (2, .int x2)] [] := by
  unfold X_points_b0 at h
  refine gw_iload_n (pc := 0) o d_X_points_0 rfl 1 rfl ?_
  refine gw_if_ne (pc := 1) (tgt := 6) o d_X_points_1 (by decide) (fun hc => ?_) (fun hc => ?_)
  · have h := h.2 hc
    refine gw_iconst (pc := 6) (v := (1 : Int32)) o d_X_points_6 (by decide) ?_
    refine gw_aload_n (pc := 7) o d_X_points_7 rfl 0 rfl ?_
    refine gw_iload_n (pc := 8) o d_X_points_8 rfl 1 rfl ?_
    refine gw_callV (pc := 9) (b := τ.2.2 54) (As := [.int x1]) (st := [.int (1 : Int32)]) o (ct_N_level o.hD h) mi_N_level q_254 q_255 q_256 0 rfl rfl (xRo_of (by omega) (by decide)) rfl rfl (Nat.le_of_ble_eq_true rfl) d_X_points_9 (kk_p_i rfl (fun r9 h => ?_))
    refine gw_iload_n (pc := 12) o d_X_points_12 rfl 2 rfl ?_
    refine gw_isub (pc := 13) o d_X_points_13 ?_
    refine gw_ishl (pc := 14) o d_X_points_14 ?_
    refine gw_topi (fun x3_15 ex3_15 => ?_)
    have h := h x3_15 ex3_15
    refine gw_istore_n (pc := 15) (lv' := [(3, .int x3_15), (0, .ref (τ.2.2 54)), (1, .int x1), (2, .int x2)]) o d_X_points_15 rfl (by decide) rfl ?_
    refine gw_iload_n (pc := 16) o d_X_points_16 rfl 2 rfl ?_
    refine gw_iconst (pc := 17) (v := (1 : Int32)) o d_X_points_17 (by decide) ?_
    refine gw_icmp_ne (pc := 18) (tgt := 23) o d_X_points_18 (by decide) (fun hc => ?_) (fun hc => ?_)
    · have h := h.2 hc
      refine gw_aload_n (pc := 23) o d_X_points_23 rfl 1 rfl ?_
      refine gw_iload_n (pc := 24) o d_X_points_24 rfl 2 rfl ?_
      refine gw_callV (pc := 25) (b := τ.2.2 54) (As := [.int x1]) (st := []) o (ct_N_level o.hD h) mi_N_level q_254 q_255 q_256 0 rfl rfl (xRo_of (by omega) (by decide)) rfl rfl (Nat.le_of_ble_eq_true rfl) d_X_points_25 (kk_p_i rfl (fun r25 h => ?_))
      refine gw_iconst (pc := 28) (v := (1 : Int32)) o d_X_points_28 (by decide) ?_
      refine gw_iadd (pc := 29) o d_X_points_29 ?_
      refine gw_topi (fun x4_30 ex4_30 => ?_)
      have h := h x4_30 ex4_30
      refine gw_istore (pc := 30) (lv' := [(4, .int x4_30), (3, .int x3_15), (0, .ref (τ.2.2 54)), (1, .int x1), (2, .int x2)]) o d_X_points_30 (by decide) rfl ?_
      refine gw_iload_n (pc := 32) o d_X_points_32 rfl 1 rfl ?_
      refine gw_aload_n (pc := 33) o d_X_points_33 rfl 2 rfl ?_
      refine gw_aload_n (pc := 34) o d_X_points_34 rfl 2 rfl ?_
      refine gN_getN_lows (pc := 35) o d_X_points_35 ?_
      refine gw_iload_n (pc := 38) o d_X_points_38 rfl 3 rfl ?_
      have hi := h.1
      have h := h.2
      refine gN_ald_lows (pc := 39) o hi d_X_points_39 ?_
      refine gw_iload (pc := 40) o d_X_points_40 0 rfl ?_
      refine gw_callS (pc := 42) (As := [.ref (τ.2.2 54), .int (N 1 x1.toNatClampNeg), .int x4_30]) (st := [.int x3_15]) o (hf _ _ _ _ h) mi_X_points q_321 q_322 (xRo_of (by omega) (by decide)) rfl rfl (Nat.le_of_ble_eq_true rfl) d_X_points_42 (kk_p_i rfl (fun r42 h => ?_))
      refine gw_aload_n (pc := 45) o d_X_points_45 rfl 2 rfl ?_
      refine gw_aload_n (pc := 46) o d_X_points_46 rfl 2 rfl ?_
      refine gN_getN_highs (pc := 47) o d_X_points_47 ?_
      refine gw_iload_n (pc := 50) o d_X_points_50 rfl 3 rfl ?_
      have hi := h.1
      have h := h.2
      refine gN_ald_highs (pc := 51) o hi d_X_points_51 ?_
      refine gw_iload (pc := 52) o d_X_points_52 0 rfl ?_
      refine gw_callS (pc := 54) (As := [.ref (τ.2.2 54), .int (N 2 x1.toNatClampNeg), .int x4_30]) (st := [.int r42, .int x3_15]) o (hf _ _ _ _ h) mi_X_points q_321 q_322 (xRo_of (by omega) (by decide)) rfl rfl (Nat.le_of_ble_eq_true rfl) d_X_points_54 (kk_p_i rfl (fun r54 h => ?_))
      refine gw_iadd (pc := 57) o d_X_points_57 ?_
      refine gw_imul (pc := 58) o d_X_points_58 ?_
      exact gw_iret (pc := 59) o ⟨Nat.le_refl _, Nat.le_refl _⟩ (zp_i.mk h) d_X_points_59
    · have h := h.1 hc
      refine gw_iload_n (pc := 21) o d_X_points_21 rfl 0 rfl ?_
      exact gw_iret (pc := 22) o ⟨Nat.le_refl _, Nat.le_refl _⟩ (zp_i.mk h) d_X_points_22
  · have h := h.1 hc
    refine gw_iconst (pc := 4) (v := (0 : Int32)) o d_X_points_4 (by decide) ?_
    exact gw_iret (pc := 5) o ⟨Nat.le_refl _, Nat.le_refl _⟩ (zp_i.mk h) d_X_points_5
def w_X_points : Nat → xF → Int32 → Int32 → (Int32 → Prop) → Prop
  | 0, _, _, _, _ => False
  | d + 1, N, x1, x2, Z => X_points_b0  (w_X_points d)  Z N x1 x2
theorem ct_X_points {l : Launch} {τ : xT} (hD : xD (wdN τ)) : ∀ {d : Nat} {N : xF} {x1 : Int32} {x2 : Int32} {Z : Int32 → Prop} (h : w_X_points d N x1 x2 Z), CT l (wdN τ) y_X_points (.code y_X_points b_X_points 5 (some .int)) (xR (1 + d)) [.ref (τ.2.2 54), .int x1, .int x2] N (zp_i N Z) := by
  intro d
  induction d with
  | zero => intro N x1 x2 Z h; exact h.elim
  | succ d ih =>
    intro N x1 x2 Z h
    exact CT.of (by decide) (Nat.le_of_ble_eq_true rfl) hD (fun κ hl ha o => gw_sub (lv' := [(0, .ref (τ.2.2 54)), (1, .int x1), (2, .int x2)]) [0, 1, 2] rfl (wk_X_points_b0 o (fun _ _ _ _ h => hl ▸ ih h) h))
