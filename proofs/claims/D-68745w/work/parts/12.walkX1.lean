/-! walks, printed by mk.py -/
def X_feedsOf_b28 (Z : Int32 → Prop) (k4 : Int32 → Int32 → Prop) (E : xF) (N : xF) (x1 : Int32) (x3 : Int32) (s0 : Int32) (s1 : Int32) : Prop := ∀ x2_29 : Int32, x2_29 = s0 + s1 → (∀ x3_30 : Int32, x3_30 = x3 + (1 : Int32) → (k4 x2_29 x3_30))
set_option maxRecDepth 10000 in
theorem wk_X_feedsOf_b28 {κ : Cx} {τ : xT} {Z : Int32 → Prop} {k4 : Int32 → Int32 → Prop} {E : xF} {N : xF} {x1 : Int32} {x3 : Int32} {s0 : Int32} {s1 : Int32} (o : OKc κ (wdX τ) 4 b_X_feedsOf "StateExplorer" (some .int) (xR 0)) (hk4 : ∀ (x2 : Int32) (x3 : Int32), k4 x2 x3 → GW κ (wdX τ) 4 (0, 0) (xMQ κ (wdX τ) (xR 0) (zp_i (E, N) Z)) (E, N) 4 [(0, .ref (τ.2.2 30)), (1, .int x1), (2, .int x2), (3, .int x3)] []) (h : X_feedsOf_b28 Z k4 E N x1 x3 s0 s1) : GW κ (wdX τ) 4 (0, 0) (xMQ κ (wdX τ) (xR 0) (zp_i (E, N) Z)) (E, N) 28 [(0, .ref (τ.2.2 30)), (1, .int x1), (3, .int x3)] [.int s1, .int s0] := by
  unfold X_feedsOf_b28 at h
  refine gw_iadd (pc := 28) o d_X_feedsOf_28 ?_
  refine gw_topi (fun x2_29 ex2_29 => ?_)
  have h := h x2_29 ex2_29
  refine gw_istore_n (pc := 29) (lv' := [(2, .int x2_29), (0, .ref (τ.2.2 30)), (1, .int x1), (3, .int x3)]) o d_X_feedsOf_29 rfl (by decide) rfl ?_
  refine gw_iincN (pc := 30) (c := (1 : Int32)) (lw := fun x3_30 => [(3, .int x3_30), (2, .int x2_29), (0, .ref (τ.2.2 30)), (1, .int x1)]) o d_X_feedsOf_30 (by decide) 3 rfl (by decide) (fun _ => rfl) (fun x3_30 ex3_30 => ?_)
  have h := h x3_30 ex3_30
  refine gw_goto (pc := 33) (tgt := 4) o d_X_feedsOf_33 (by decide) ?_
  exact gw_sub (lv' := [(0, .ref (τ.2.2 30)), (1, .int x1), (2, .int x2_29), (3, .int x3_30)]) [2, 3, 1, 0] rfl (hk4 _ _ h)
def X_feedsOf_b4 (Z : Int32 → Prop) (k4 : Int32 → Int32 → Prop) (E : xF) (N : xF) (x1 : Int32) (x2 : Int32) (x3 : Int32) : Prop := (((E 30 2) ≤ x3) → (Z x2)) ∧ (¬ ((E 30 2) ≤ x3) → (vp_in x3 240 ∧ ((((E 10 x3.toNatClampNeg) = x1) → (X_feedsOf_b28 Z k4 E N x1 x3 x2 (1 : Int32))) ∧ (¬ ((E 10 x3.toNatClampNeg) = x1) → (X_feedsOf_b28 Z k4 E N x1 x3 x2 (0 : Int32))))))
set_option maxRecDepth 10000 in
theorem wk_X_feedsOf_b4 {κ : Cx} {τ : xT} {Z : Int32 → Prop} {k4 : Int32 → Int32 → Prop} {E : xF} {N : xF} {x1 : Int32} {x2 : Int32} {x3 : Int32} (o : OKc κ (wdX τ) 4 b_X_feedsOf "StateExplorer" (some .int) (xR 0)) (hk4 : ∀ (x2 : Int32) (x3 : Int32), k4 x2 x3 → GW κ (wdX τ) 4 (0, 0) (xMQ κ (wdX τ) (xR 0) (zp_i (E, N) Z)) (E, N) 4 [(0, .ref (τ.2.2 30)), (1, .int x1), (2, .int x2), (3, .int x3)] []) (h : X_feedsOf_b4 Z k4 E N x1 x2 x3) : GW κ (wdX τ) 4 (0, 0) (xMQ κ (wdX τ) (xR 0) (zp_i (E, N) Z)) (E, N) 4 [(0, .ref (τ.2.2 30)), (1, .int x1), (2, .int x2), (3, .int x3)] [] := by
  unfold X_feedsOf_b4 at h
  refine gw_iload_n (pc := 4) o d_X_feedsOf_4 rfl 3 rfl ?_
  refine gw_aload_n (pc := 5) o d_X_feedsOf_5 rfl 0 rfl ?_
  refine gE_get_feeds (pc := 6) o q_82 d_X_feedsOf_6 ?_
  refine gw_icmp_ge (pc := 9) (tgt := 36) o d_X_feedsOf_9 (by decide) (fun hc => ?_) (fun hc => ?_)
  · have h := h.1 hc
    refine gw_iload_n (pc := 36) o d_X_feedsOf_36 rfl 2 rfl ?_
    exact gw_iret (pc := 37) o ⟨Nat.le_refl _, Nat.le_refl _⟩ (zp_i.mk h) d_X_feedsOf_37
  · have h := h.2 hc
    refine gw_iload_n (pc := 12) o d_X_feedsOf_12 rfl 2 rfl ?_
    refine gw_aload_n (pc := 13) o d_X_feedsOf_13 rfl 0 rfl ?_
    refine gE_get_to (pc := 14) o q_90 d_X_feedsOf_14 ?_
    refine gw_iload_n (pc := 17) o d_X_feedsOf_17 rfl 3 rfl ?_
    have hi := h.1
    have h := h.2
    refine gE_ald_to (pc := 18) o hi d_X_feedsOf_18 ?_
    refine gw_iload_n (pc := 19) o d_X_feedsOf_19 rfl 1 rfl ?_
    refine gw_icmp_ne (pc := 20) (tgt := 27) o d_X_feedsOf_20 (by decide) (fun hc => ?_) (fun hc => ?_)
    · have h := h.2 hc
      refine gw_iconst (pc := 27) (v := (0 : Int32)) o d_X_feedsOf_27 (by decide) ?_
      exact gw_sub (lv' := [(0, .ref (τ.2.2 30)), (1, .int x1), (3, .int x3)]) [0, 1, 3] rfl (wk_X_feedsOf_b28 o hk4 h)
    · have h := h.1 hc
      refine gw_iconst (pc := 23) (v := (1 : Int32)) o d_X_feedsOf_23 (by decide) ?_
      refine gw_goto (pc := 24) (tgt := 28) o d_X_feedsOf_24 (by decide) ?_
      exact gw_sub (lv' := [(0, .ref (τ.2.2 30)), (1, .int x1), (3, .int x3)]) [0, 1, 3] rfl (wk_X_feedsOf_b28 o hk4 h)
def X_feedsOf_L4 (Z : Int32 → Prop) (E : xF) (N : xF) (x1 : Int32) (x2 : Int32) (x3 : Int32) : Prop := LOOP2 (fun k4 x2 x3 => X_feedsOf_b4 Z k4 E N x1 x2 x3) x2 x3
theorem wk_X_feedsOf_L4 {κ : Cx} {τ : xT} {Z : Int32 → Prop} {E : xF} {N : xF} {x1 : Int32} {x2 : Int32} {x3 : Int32} (o : OKc κ (wdX τ) 4 b_X_feedsOf "StateExplorer" (some .int) (xR 0)) (h : X_feedsOf_L4 Z E N x1 x2 x3) : GW κ (wdX τ) 4 (0, 0) (xMQ κ (wdX τ) (xR 0) (zp_i (E, N) Z)) (E, N) 4 [(0, .ref (τ.2.2 30)), (1, .int x1), (2, .int x2), (3, .int x3)] [] := by
  unfold X_feedsOf_L4 at h
  exact LOOP2.use (G := fun x2 x3 => GW κ (wdX τ) 4 (0, 0) (xMQ κ (wdX τ) (xR 0) (zp_i (E, N) Z)) (E, N) 4 [(0, .ref (τ.2.2 30)), (1, .int x1), (2, .int x2), (3, .int x3)] []) (fun k4 x2 x3 hk4 h => wk_X_feedsOf_b4 o hk4 h) h
def X_feedsOf_b0 (Z : Int32 → Prop) (E : xF) (N : xF) (x1 : Int32) : Prop := X_feedsOf_L4 Z E N x1 (0 : Int32) (0 : Int32)
set_option maxRecDepth 10000 in
theorem wk_X_feedsOf_b0 {κ : Cx} {τ : xT} {Z : Int32 → Prop} {E : xF} {N : xF} {x1 : Int32} (o : OKc κ (wdX τ) 4 b_X_feedsOf "StateExplorer" (some .int) (xR 0)) (h : X_feedsOf_b0 Z E N x1) : GW κ (wdX τ) 4 (0, 0) (xMQ κ (wdX τ) (xR 0) (zp_i (E, N) Z)) (E, N) 0 [(0, .ref (τ.2.2 30)), (1, .int x1)] [] := by
  unfold X_feedsOf_b0 at h
  refine gw_iconst (pc := 0) (v := (0 : Int32)) o d_X_feedsOf_0 (by decide) ?_
  refine gw_istore_n (pc := 1) (lv' := [(2, .int (0 : Int32)), (0, .ref (τ.2.2 30)), (1, .int x1)]) o d_X_feedsOf_1 rfl (by decide) rfl ?_
  refine gw_iconst (pc := 2) (v := (0 : Int32)) o d_X_feedsOf_2 (by decide) ?_
  refine gw_istore_n (pc := 3) (lv' := [(3, .int (0 : Int32)), (2, .int (0 : Int32)), (0, .ref (τ.2.2 30)), (1, .int x1)]) o d_X_feedsOf_3 rfl (by decide) rfl ?_
  exact gw_sub (lv' := [(0, .ref (τ.2.2 30)), (1, .int x1), (2, .int (0 : Int32)), (3, .int (0 : Int32))]) [2, 3, 1, 0] rfl (wk_X_feedsOf_L4 o h)
def w_X_feedsOf  (E : xF) (N : xF) (x1 : Int32) (Z : Int32 → Prop) : Prop := X_feedsOf_b0  Z E N x1
theorem ct_X_feedsOf {l : Launch} {τ : xT} {E : xF} {N : xF} {x1 : Int32} {Z : Int32 → Prop} (hD : xD (wdX τ)) (h : w_X_feedsOf  E N x1 Z) : CT l (wdX τ) y_X_feedsOf (.code y_X_feedsOf b_X_feedsOf 4 (some .int)) (xR 0) [.ref (τ.2.2 30), .int x1] (E, N) (zp_i (E, N) Z) := by
  subst_vars
  exact CT.of (by decide) (Nat.le_of_ble_eq_true rfl) hD (fun κ hl ha o => gw_sub (lv' := [(0, .ref (τ.2.2 30)), (1, .int x1)]) [0, 1] rfl (wk_X_feedsOf_b0 o h))
def X_clear_b0 (Z : Int32 → xF → Prop) (E : xF) (N : xF) : Prop := ∀ x1_4 : Int32, x1_4 = E 30 1 → (∀ E_7 : xF, E_7 = xs E 30 1 (0 : Int32) → (∀ E_12 : xF, E_12 = xs E_7 30 2 (0 : Int32) → (∀ E_17 : xF, E_17 = xs E_12 30 3 (0 : Int32) → (∀ E_22 : xF, E_22 = xs E_17 30 4 (0 : Int32) → (∀ E_27 : xF, E_27 = xs E_22 30 5 (0 : Int32) → (∀ E_32 : xF, E_32 = xs E_27 30 13 (0 : Int32) → (Z x1_4 E_32)))))))
set_option maxRecDepth 10000 in
theorem wk_X_clear_b0 {κ : Cx} {τ : xT} {Z : Int32 → xF → Prop} {E : xF} {N : xF} (o : OKc κ (wdX τ) 2 b_X_clear "StateExplorer" (some .int) (xR 0)) (h : X_clear_b0 Z E N) : GW κ (wdX τ) 2 (0, 0) (xMQ κ (wdX τ) (xR 0) (z1_i N Z)) (E, N) 0 [(0, .ref (τ.2.2 30))] [] := by
  unfold X_clear_b0 at h
  refine gw_aload_n (pc := 0) o d_X_clear_0 rfl 0 rfl ?_
  refine gE_get_gates (pc := 1) o q_81 d_X_clear_1 ?_
  refine gw_topi (fun x1_4 ex1_4 => ?_)
  have h := h x1_4 ex1_4
  refine gw_istore_n (pc := 4) (lv' := [(1, .int x1_4), (0, .ref (τ.2.2 30))]) o d_X_clear_4 rfl (by decide) rfl ?_
  refine gw_aload_n (pc := 5) o d_X_clear_5 rfl 1 rfl ?_
  refine gw_iconst (pc := 6) (v := (0 : Int32)) o d_X_clear_6 (by decide) ?_
  refine gE_put_gates (pc := 7) o q_81 d_X_clear_7 (fun E_7 eE_7 => ?_)
  have h := h E_7 eE_7
  refine gw_aload_n (pc := 10) o d_X_clear_10 rfl 1 rfl ?_
  refine gw_iconst (pc := 11) (v := (0 : Int32)) o d_X_clear_11 (by decide) ?_
  refine gE_put_feeds (pc := 12) o q_82 d_X_clear_12 (fun E_12 eE_12 => ?_)
  have h := h E_12 eE_12
  refine gw_aload_n (pc := 15) o d_X_clear_15 rfl 1 rfl ?_
  refine gw_iconst (pc := 16) (v := (0 : Int32)) o d_X_clear_16 (by decide) ?_
  refine gE_put_inputs (pc := 17) o q_83 d_X_clear_17 (fun E_17 eE_17 => ?_)
  have h := h E_17 eE_17
  refine gw_aload_n (pc := 20) o d_X_clear_20 rfl 1 rfl ?_
  refine gw_iconst (pc := 21) (v := (0 : Int32)) o d_X_clear_21 (by decide) ?_
  refine gE_put_latches (pc := 22) o q_84 d_X_clear_22 (fun E_22 eE_22 => ?_)
  have h := h E_22 eE_22
  refine gw_aload_n (pc := 25) o d_X_clear_25 rfl 1 rfl ?_
  refine gw_iconst (pc := 26) (v := (0 : Int32)) o d_X_clear_26 (by decide) ?_
  refine gE_put_outputs (pc := 27) o q_85 d_X_clear_27 (fun E_27 eE_27 => ?_)
  have h := h E_27 eE_27
  refine gw_aload_n (pc := 30) o d_X_clear_30 rfl 1 rfl ?_
  refine gw_iconst (pc := 31) (v := (0 : Int32)) o d_X_clear_31 (by decide) ?_
  refine gE_put_explored (pc := 32) o q_93 (by decide) d_X_clear_32 (fun E_32 eE_32 => ?_)
  have h := h E_32 eE_32
  refine gw_iload_n (pc := 35) o d_X_clear_35 rfl 0 rfl ?_
  exact gw_iret (pc := 36) o ⟨Nat.le_refl _, Nat.le_refl _⟩ (z1_i.mk h) d_X_clear_36
def w_X_clear  (E : xF) (N : xF)  (Z : Int32 → xF → Prop) : Prop := X_clear_b0  Z E N
theorem ct_X_clear {l : Launch} {τ : xT} {E : xF} {N : xF}  {Z : Int32 → xF → Prop} (hD : xD (wdX τ)) (h : w_X_clear  E N Z) : CT l (wdX τ) y_X_clear (.code y_X_clear b_X_clear 2 (some .int)) (xR 0) [.ref (τ.2.2 30)] (E, N) (z1_i N Z) := by
  subst_vars
  exact CT.of (by decide) (Nat.le_of_ble_eq_true rfl) hD (fun κ hl ha o => gw_sub (lv' := [(0, .ref (τ.2.2 30))]) [0] rfl (wk_X_clear_b0 o h))
def X_keep_b2 (rk rl : Nat) (Z : xF → Prop) (k2 : Int32 → xF → Prop) (E : xF) (N : xF) (x2 : Int32) (x3 : Int32) : Prop := ((x2 ≤ x3) → (Z N)) ∧ (¬ (x2 ≤ x3) → (vp_in x3 rl ∧ (w_N_mark 16 N (E rk x3.toNatClampNeg) (fun r14 N_14 => ∀ x3_18 : Int32, x3_18 = x3 + (1 : Int32) → (k2 x3_18 N_14)))))
set_option maxRecDepth 10000 in
theorem wk_X_keep_b2 {κ : Cx} {τ : xT} {rk rl ra rq : Nat} {Z : xF → Prop} {k2 : Int32 → xF → Prop} {E : xF} {N : xF} {x2 : Int32} {x3 : Int32} (o : OKc κ (wdX τ) 4 b_X_keep "StateExplorer" none (xR 17)) (hrow : ∀ E N : xF, (xWf (wdX τ) (E, N))[rq]? = some (ra, .inl (xCg (wdX τ) 0, rl, .inl (E rk)))) (hk2 : ∀ (x3 : Int32) (N : xF), k2 x3 N → GW κ (wdX τ) 4 (0, 0) (xMQ κ (wdX τ) (xR 17) (z2_v E Z)) (E, N) 2 [(0, .ref (τ.2.2 30)), (1, .ref (ra)), (2, .int x2), (3, .int x3)] []) (h : X_keep_b2 rk rl Z k2 E N x2 x3) : GW κ (wdX τ) 4 (0, 0) (xMQ κ (wdX τ) (xR 17) (z2_v E Z)) (E, N) 2 [(0, .ref (τ.2.2 30)), (1, .ref (ra)), (2, .int x2), (3, .int x3)] [] := by
  unfold X_keep_b2 at h
  refine gw_iload_n (pc := 2) o d_X_keep_2 rfl 3 rfl ?_
  refine gw_iload_n (pc := 3) o d_X_keep_3 rfl 2 rfl ?_
  refine gw_icmp_ge (pc := 4) (tgt := 24) o d_X_keep_4 (by decide) (fun hc => ?_) (fun hc => ?_)
  · have h := h.1 hc
    exact gw_vret (pc := 24) o ⟨Nat.le_refl _, Nat.le_refl _⟩ (z2_v.mk h) d_X_keep_24
  · have h := h.2 hc
    refine gw_aload_n (pc := 7) o d_X_keep_7 rfl 0 rfl ?_
    refine gE_get_nodes (pc := 8) o q_80 d_X_keep_8 ?_
    refine gw_aload_n (pc := 11) o d_X_keep_11 rfl 1 rfl ?_
    refine gw_iload_n (pc := 12) o d_X_keep_12 rfl 3 rfl ?_
    have hi := h.1
    have h := h.2
    refine gw_iald (pc := 13) o rq (hrow _ _) hi d_X_keep_13 ?_
    refine gw_callS (pc := 14) (As := [.ref (τ.2.2 54), .int (E rk x3.toNatClampNeg)]) (st := []) o (CT.lfN_i (ct_N_mark o.hD.N h) o.hD) mi_N_mark q_206 q_207 (xRo_of (by omega) (by decide)) rfl rfl (Nat.le_of_ble_eq_true rfl) d_X_keep_14 (kk_2_i rfl (fun r14 N_14 h => ?_))
    refine gw_pop (pc := 17) o d_X_keep_17 rfl ?_
    refine gw_iincN (pc := 18) (c := (1 : Int32)) (lw := fun x3_18 => [(3, .int x3_18), (0, .ref (τ.2.2 30)), (1, .ref (ra)), (2, .int x2)]) o d_X_keep_18 (by decide) 3 rfl (by decide) (fun _ => rfl) (fun x3_18 ex3_18 => ?_)
    have h := h x3_18 ex3_18
    refine gw_goto (pc := 21) (tgt := 2) o d_X_keep_21 (by decide) ?_
    exact gw_sub (lv' := [(0, .ref (τ.2.2 30)), (1, .ref (ra)), (2, .int x2), (3, .int x3_18)]) [1, 2, 3, 0] rfl (hk2 _ _ h)
def X_keep_L2 (rk rl : Nat) (Z : xF → Prop) (E : xF) (N : xF) (x2 : Int32) (x3 : Int32) : Prop := LOOP2 (fun k2 x3 N => X_keep_b2 rk rl Z k2 E N x2 x3) x3 N
theorem wk_X_keep_L2 {κ : Cx} {τ : xT} {rk rl ra rq : Nat} {Z : xF → Prop} {E : xF} {N : xF} {x2 : Int32} {x3 : Int32} (o : OKc κ (wdX τ) 4 b_X_keep "StateExplorer" none (xR 17)) (hrow : ∀ E N : xF, (xWf (wdX τ) (E, N))[rq]? = some (ra, .inl (xCg (wdX τ) 0, rl, .inl (E rk)))) (h : X_keep_L2 rk rl Z E N x2 x3) : GW κ (wdX τ) 4 (0, 0) (xMQ κ (wdX τ) (xR 17) (z2_v E Z)) (E, N) 2 [(0, .ref (τ.2.2 30)), (1, .ref (ra)), (2, .int x2), (3, .int x3)] [] := by
  unfold X_keep_L2 at h
  exact LOOP2.use (G := fun x3 N => GW κ (wdX τ) 4 (0, 0) (xMQ κ (wdX τ) (xR 17) (z2_v E Z)) (E, N) 2 [(0, .ref (τ.2.2 30)), (1, .ref (ra)), (2, .int x2), (3, .int x3)] []) (fun k2 x3 N hk2 h => wk_X_keep_b2 o hrow hk2 h) h
def X_keep_b0 (rk rl : Nat) (Z : xF → Prop) (E : xF) (N : xF) (x2 : Int32) : Prop := X_keep_L2 rk rl Z E N x2 (0 : Int32)
set_option maxRecDepth 10000 in
theorem wk_X_keep_b0 {κ : Cx} {τ : xT} {rk rl ra rq : Nat} {Z : xF → Prop} {E : xF} {N : xF} {x2 : Int32} (o : OKc κ (wdX τ) 4 b_X_keep "StateExplorer" none (xR 17)) (hrow : ∀ E N : xF, (xWf (wdX τ) (E, N))[rq]? = some (ra, .inl (xCg (wdX τ) 0, rl, .inl (E rk)))) (h : X_keep_b0 rk rl Z E N x2) : GW κ (wdX τ) 4 (0, 0) (xMQ κ (wdX τ) (xR 17) (z2_v E Z)) (E, N) 0 [(0, .ref (τ.2.2 30)), (1, .ref (ra)), (2, .int x2)] [] := by
  unfold X_keep_b0 at h
  refine gw_iconst (pc := 0) (v := (0 : Int32)) o d_X_keep_0 (by decide) ?_
  refine gw_istore_n (pc := 1) (lv' := [(3, .int (0 : Int32)), (0, .ref (τ.2.2 30)), (1, .ref (ra)), (2, .int x2)]) o d_X_keep_1 rfl (by decide) rfl ?_
  exact gw_sub (lv' := [(0, .ref (τ.2.2 30)), (1, .ref (ra)), (2, .int x2), (3, .int (0 : Int32))]) [1, 2, 3, 0] rfl (wk_X_keep_L2 o hrow h)
def w_X_keep (rk rl : Nat) (E : xF) (N : xF) (x2 : Int32) (Z : xF → Prop) : Prop := X_keep_b0 rk rl Z E N x2
theorem ct_X_keep {l : Launch} {τ : xT} {rk rl ra rq : Nat} {E : xF} {N : xF} {x2 : Int32} {Z : xF → Prop} (hD : xD (wdX τ)) (hrow : ∀ E N : xF, (xWf (wdX τ) (E, N))[rq]? = some (ra, .inl (xCg (wdX τ) 0, rl, .inl (E rk)))) (h : w_X_keep rk rl E N x2 Z) : CT l (wdX τ) y_X_keep (.code y_X_keep b_X_keep 4 none) (xR 17) [.ref (τ.2.2 30), .ref (ra), .int x2] (E, N) (z2_v E Z) := by
  subst_vars
  exact CT.of (by decide) (Nat.le_of_ble_eq_true rfl) hD (fun κ hl ha o => gw_sub (lv' := [(0, .ref (τ.2.2 30)), (1, .ref (ra)), (2, .int x2)]) [0, 1, 2] rfl (wk_X_keep_b0 o hrow h))
def X_begin_b0 (Z : xF → Prop) (E : xF) (N : xF) : Prop := w_N_isTight N (fun r4 => ((r4 = 0) → (Z N)) ∧ (¬ (r4 = 0) → (w_X_keep 14 60 E N (60 : Int32) (fun N_18 => w_X_keep 15 60 E N_18 (60 : Int32) (fun N_28 => w_X_keep 16 8 E N_28 (8 : Int32) (fun N_38 => w_X_keep 17 256 E N_38 (256 : Int32) (fun N_49 => w_X_keep 29 256 E N_49 (256 : Int32) (fun N_60 => w_X_keep 24 4 E N_60 (4 : Int32) (fun N_73 => w_X_keep 25 8 E N_73 (8 : Int32) (fun N_83 => w_X_keep 26 8 E N_83 (8 : Int32) (fun N_93 => w_N_mark 16 N_93 (E 30 20) (fun r104 N_104 => w_N_mark 16 N_104 (E 30 21) (fun r116 N_116 => w_N_sweep N_116 (fun N_124 => Z N_124))))))))))))))
set_option maxRecDepth 10000 in
theorem wk_X_begin_b0 {κ : Cx} {τ : xT} {Z : xF → Prop} {E : xF} {N : xF} (o : OKc κ (wdX τ) 1 b_X_begin "StateExplorer" none (xR 18)) (h : X_begin_b0 Z E N) : GW κ (wdX τ) 1 (0, 0) (xMQ κ (wdX τ) (xR 18) (z2_v E Z)) (E, N) 0 [(0, .ref (τ.2.2 30))] [] := by
  unfold X_begin_b0 at h
  refine gw_aload_n (pc := 0) o d_X_begin_0 rfl 0 rfl ?_
  refine gE_get_nodes (pc := 1) o q_80 d_X_begin_1 ?_
  refine gw_callV (pc := 4) (b := τ.2.2 54) (As := []) (st := []) o (CT.lfP_i (ct_N_isTight o.hD.N h) o.hD) mi_N_isTight q_197 q_198 q_199 19 rfl rfl (xRo_of (by omega) (by decide)) rfl rfl (Nat.le_of_ble_eq_true rfl) d_X_begin_4 (kk_p_i rfl (fun r4 h => ?_))
  refine gw_if_ne (pc := 7) (tgt := 11) o d_X_begin_7 (by decide) (fun hc => ?_) (fun hc => ?_)
  · have h := h.2 hc
    refine gw_aload_n (pc := 11) o d_X_begin_11 rfl 0 rfl ?_
    refine gw_aload_n (pc := 12) o d_X_begin_12 rfl 0 rfl ?_
    refine gE_get_ones (pc := 13) o q_94 d_X_begin_13 ?_
    refine gw_bipush (pc := 16) (v := (60 : Int32)) o d_X_begin_16 (by decide) ?_
    refine gw_callV (pc := 18) (b := τ.2.2 30) (As := [.ref (τ.2.2 14), .int (60 : Int32)]) (st := []) o (ct_X_keep (ra := τ.2.2 14) (rq := 8) o.hD (fun _ _ => rfl) h) mi_X_keep q_202 q_204 qs_4 0 rfl rfl (xRo_of (by omega) (by decide)) rfl rfl (Nat.le_of_ble_eq_true rfl) d_X_begin_18 (kk_2_v rfl (fun N_18 h => ?_))
    refine gw_aload_n (pc := 21) o d_X_begin_21 rfl 0 rfl ?_
    refine gw_aload_n (pc := 22) o d_X_begin_22 rfl 0 rfl ?_
    refine gE_get_zeros (pc := 23) o q_95 d_X_begin_23 ?_
    refine gw_bipush (pc := 26) (v := (60 : Int32)) o d_X_begin_26 (by decide) ?_
    refine gw_callV (pc := 28) (b := τ.2.2 30) (As := [.ref (τ.2.2 15), .int (60 : Int32)]) (st := []) o (ct_X_keep (ra := τ.2.2 15) (rq := 9) o.hD (fun _ _ => rfl) h) mi_X_keep q_202 q_204 qs_4 0 rfl rfl (xRo_of (by omega) (by decide)) rfl rfl (Nat.le_of_ble_eq_true rfl) d_X_begin_28 (kk_2_v rfl (fun N_28 h => ?_))
    refine gw_aload_n (pc := 31) o d_X_begin_31 rfl 0 rfl ?_
    refine gw_aload_n (pc := 32) o d_X_begin_32 rfl 0 rfl ?_
    refine gE_get_nexts (pc := 33) o q_96 d_X_begin_33 ?_
    refine gw_bipush (pc := 36) (v := (8 : Int32)) o d_X_begin_36 (by decide) ?_
    refine gw_callV (pc := 38) (b := τ.2.2 30) (As := [.ref (τ.2.2 16), .int (8 : Int32)]) (st := []) o (ct_X_keep (ra := τ.2.2 16) (rq := 10) o.hD (fun _ _ => rfl) h) mi_X_keep q_202 q_204 qs_4 0 rfl rfl (xRo_of (by omega) (by decide)) rfl rfl (Nat.le_of_ble_eq_true rfl) d_X_begin_38 (kk_2_v rfl (fun N_38 h => ?_))
    refine gw_aload_n (pc := 41) o d_X_begin_41 rfl 0 rfl ?_
    refine gw_aload_n (pc := 42) o d_X_begin_42 rfl 0 rfl ?_
    refine gE_get_layers (pc := 43) o q_97 d_X_begin_43 ?_
    refine gw_sipush (pc := 46) (v := (256 : Int32)) o d_X_begin_46 (by decide) ?_
    refine gw_callV (pc := 49) (b := τ.2.2 30) (As := [.ref (τ.2.2 17), .int (256 : Int32)]) (st := []) o (ct_X_keep (ra := τ.2.2 17) (rq := 11) o.hD (fun _ _ => rfl) h) mi_X_keep q_202 q_204 qs_4 0 rfl rfl (xRo_of (by omega) (by decide)) rfl rfl (Nat.le_of_ble_eq_true rfl) d_X_begin_49 (kk_2_v rfl (fun N_49 h => ?_))
    refine gw_aload_n (pc := 52) o d_X_begin_52 rfl 0 rfl ?_
    refine gw_aload_n (pc := 53) o d_X_begin_53 rfl 0 rfl ?_
    refine gE_get_through (pc := 54) o q_109 d_X_begin_54 ?_
    refine gw_sipush (pc := 57) (v := (256 : Int32)) o d_X_begin_57 (by decide) ?_
    refine gw_callV (pc := 60) (b := τ.2.2 30) (As := [.ref (τ.2.2 29), .int (256 : Int32)]) (st := []) o (ct_X_keep (ra := τ.2.2 29) (rq := 18) o.hD (fun _ _ => rfl) h) mi_X_keep q_202 q_204 qs_4 0 rfl rfl (xRo_of (by omega) (by decide)) rfl rfl (Nat.le_of_ble_eq_true rfl) d_X_begin_60 (kk_2_v rfl (fun N_60 h => ?_))
    refine gw_aload_n (pc := 63) o d_X_begin_63 rfl 0 rfl ?_
    refine gw_aload_n (pc := 64) o d_X_begin_64 rfl 0 rfl ?_
    refine gE_get_spare (pc := 65) o q_104 d_X_begin_65 ?_
    refine gw_aload_n (pc := 68) o d_X_begin_68 rfl 0 rfl ?_
    refine gE_get_spare (pc := 69) o q_104 d_X_begin_69 ?_
    refine gw_alen (pc := 72) (v := (4 : Int32)) (t0 := 0) o 14 rfl rfl rfl d_X_begin_72 ?_
    refine gw_callV (pc := 73) (b := τ.2.2 30) (As := [.ref (τ.2.2 24), .int (4 : Int32)]) (st := []) o (ct_X_keep (ra := τ.2.2 24) (rq := 14) o.hD (fun _ _ => rfl) h) mi_X_keep q_202 q_204 qs_4 0 rfl rfl (xRo_of (by omega) (by decide)) rfl rfl (Nat.le_of_ble_eq_true rfl) d_X_begin_73 (kk_2_v rfl (fun N_73 h => ?_))
    refine gw_aload_n (pc := 76) o d_X_begin_76 rfl 0 rfl ?_
    refine gw_aload_n (pc := 77) o d_X_begin_77 rfl 0 rfl ?_
    refine gE_get_whole (pc := 78) o q_105 d_X_begin_78 ?_
    refine gw_bipush (pc := 81) (v := (8 : Int32)) o d_X_begin_81 (by decide) ?_
    refine gw_callV (pc := 83) (b := τ.2.2 30) (As := [.ref (τ.2.2 25), .int (8 : Int32)]) (st := []) o (ct_X_keep (ra := τ.2.2 25) (rq := 15) o.hD (fun _ _ => rfl) h) mi_X_keep q_202 q_204 qs_4 0 rfl rfl (xRo_of (by omega) (by decide)) rfl rfl (Nat.le_of_ble_eq_true rfl) d_X_begin_83 (kk_2_v rfl (fun N_83 h => ?_))
    refine gw_aload_n (pc := 86) o d_X_begin_86 rfl 0 rfl ?_
    refine gw_aload_n (pc := 87) o d_X_begin_87 rfl 0 rfl ?_
    refine gE_get_halves (pc := 88) o q_106 d_X_begin_88 ?_
    refine gw_bipush (pc := 91) (v := (8 : Int32)) o d_X_begin_91 (by decide) ?_
    refine gw_callV (pc := 93) (b := τ.2.2 30) (As := [.ref (τ.2.2 26), .int (8 : Int32)]) (st := []) o (ct_X_keep (ra := τ.2.2 26) (rq := 16) o.hD (fun _ _ => rfl) h) mi_X_keep q_202 q_204 qs_4 0 rfl rfl (xRo_of (by omega) (by decide)) rfl rfl (Nat.le_of_ble_eq_true rfl) d_X_begin_93 (kk_2_v rfl (fun N_93 h => ?_))
    refine gw_aload_n (pc := 96) o d_X_begin_96 rfl 0 rfl ?_
    refine gE_get_nodes (pc := 97) o q_80 d_X_begin_97 ?_
    refine gw_aload_n (pc := 100) o d_X_begin_100 rfl 0 rfl ?_
    refine gE_get_settles (pc := 101) o q_100 d_X_begin_101 ?_
    refine gw_callS (pc := 104) (As := [.ref (τ.2.2 54), .int (E 30 20)]) (st := []) o (CT.lfN_i (ct_N_mark o.hD.N h) o.hD) mi_N_mark q_206 q_207 (xRo_of (by omega) (by decide)) rfl rfl (Nat.le_of_ble_eq_true rfl) d_X_begin_104 (kk_2_i rfl (fun r104 N_104 h => ?_))
    refine gw_pop (pc := 107) o d_X_begin_107 rfl ?_
    refine gw_aload_n (pc := 108) o d_X_begin_108 rfl 0 rfl ?_
    refine gE_get_nodes (pc := 109) o q_80 d_X_begin_109 ?_
    refine gw_aload_n (pc := 112) o d_X_begin_112 rfl 0 rfl ?_
    refine gE_get_reached (pc := 113) o q_101 d_X_begin_113 ?_
    refine gw_callS (pc := 116) (As := [.ref (τ.2.2 54), .int (E 30 21)]) (st := []) o (CT.lfN_i (ct_N_mark o.hD.N h) o.hD) mi_N_mark q_206 q_207 (xRo_of (by omega) (by decide)) rfl rfl (Nat.le_of_ble_eq_true rfl) d_X_begin_116 (kk_2_i rfl (fun r116 N_116 h => ?_))
    refine gw_pop (pc := 119) o d_X_begin_119 rfl ?_
    refine gw_aload_n (pc := 120) o d_X_begin_120 rfl 0 rfl ?_
    refine gE_get_nodes (pc := 121) o q_80 d_X_begin_121 ?_
    refine gw_callV (pc := 124) (b := τ.2.2 54) (As := []) (st := []) o (CT.lfN_v (ct_N_sweep o.hD.N h) o.hD) mi_N_sweep q_210 q_211 q_212 19 rfl rfl (xRo_of (by omega) (by decide)) rfl rfl (Nat.le_of_ble_eq_true rfl) d_X_begin_124 (kk_2_v rfl (fun N_124 h => ?_))
    exact gw_vret (pc := 127) o ⟨Nat.le_refl _, Nat.le_refl _⟩ (z2_v.mk h) d_X_begin_127
  · have h := h.1 hc
    exact gw_vret (pc := 10) o ⟨Nat.le_refl _, Nat.le_refl _⟩ (z2_v.mk h) d_X_begin_10
def w_X_begin  (E : xF) (N : xF)  (Z : xF → Prop) : Prop := X_begin_b0  Z E N
theorem ct_X_begin {l : Launch} {τ : xT} {E : xF} {N : xF}  {Z : xF → Prop} (hD : xD (wdX τ)) (h : w_X_begin  E N Z) : CT l (wdX τ) y_X_begin (.code y_X_begin b_X_begin 1 none) (xR 18) [.ref (τ.2.2 30)] (E, N) (z2_v E Z) := by
  subst_vars
  exact CT.of (by decide) (Nat.le_of_ble_eq_true rfl) hD (fun κ hl ha o => gw_sub (lv' := [(0, .ref (τ.2.2 30))]) [0] rfl (wk_X_begin_b0 o h))
def X_and_b0 (Z : Int32 → xF → xF → Prop) (E : xF) (N : xF) (x1 : Int32) (x2 : Int32) : Prop := ∀ E_6 : xF, E_6 = xs E 24 (2 : Int32).toNatClampNeg x1 → (∀ E_13 : xF, E_13 = xs E_6 24 (3 : Int32).toNatClampNeg x2 → (w_X_begin E_13 N (fun N_15 => w_X_chosen 16 N_15 x1 x2 (0 : Int32) (fun r25 N_25 => Z r25 E_13 N_25))))
set_option maxRecDepth 10000 in
theorem wk_X_and_b0 {κ : Cx} {τ : xT} {Z : Int32 → xF → xF → Prop} {E : xF} {N : xF} {x1 : Int32} {x2 : Int32} (o : OKc κ (wdX τ) 3 b_X_and "StateExplorer" (some .int) (xR 20)) (h : X_and_b0 Z E N x1 x2) : GW κ (wdX τ) 3 (0, 0) (xMQ κ (wdX τ) (xR 20) (z12_i Z)) (E, N) 0 [(0, .ref (τ.2.2 30)), (1, .int x1), (2, .int x2)] [] := by
  unfold X_and_b0 at h
  refine gw_aload_n (pc := 0) o d_X_and_0 rfl 0 rfl ?_
  refine gE_get_spare (pc := 1) o q_104 d_X_and_1 ?_
  refine gw_iconst (pc := 4) (v := (2 : Int32)) o d_X_and_4 (by decide) ?_
  refine gw_iload_n (pc := 5) o d_X_and_5 rfl 1 rfl ?_
  refine gE_ast_spare (pc := 6) o (by unfold vp_in; decide) d_X_and_6 (fun E_6 eE_6 => ?_)
  have h := h E_6 eE_6
  refine gw_aload_n (pc := 7) o d_X_and_7 rfl 0 rfl ?_
  refine gE_get_spare (pc := 8) o q_104 d_X_and_8 ?_
  refine gw_iconst (pc := 11) (v := (3 : Int32)) o d_X_and_11 (by decide) ?_
  refine gw_iload_n (pc := 12) o d_X_and_12 rfl 2 rfl ?_
  refine gE_ast_spare (pc := 13) o (by unfold vp_in; decide) d_X_and_13 (fun E_13 eE_13 => ?_)
  have h := h E_13 eE_13
  refine gw_aload_n (pc := 14) o d_X_and_14 rfl 0 rfl ?_
  refine gw_callV (pc := 15) (b := τ.2.2 30) (As := []) (st := []) o (ct_X_begin o.hD h) mi_X_begin q_193 q_195 qs_3 0 rfl rfl (xRo_of (by omega) (by decide)) rfl rfl (Nat.le_of_ble_eq_true rfl) d_X_and_15 (kk_2_v rfl (fun N_15 h => ?_))
  refine gw_aload_n (pc := 18) o d_X_and_18 rfl 0 rfl ?_
  refine gE_get_nodes (pc := 19) o q_80 d_X_and_19 ?_
  refine gw_iload_n (pc := 22) o d_X_and_22 rfl 1 rfl ?_
  refine gw_iload_n (pc := 23) o d_X_and_23 rfl 2 rfl ?_
  refine gw_iconst (pc := 24) (v := (0 : Int32)) o d_X_and_24 (by decide) ?_
  refine gw_callS (pc := 25) (As := [.ref (τ.2.2 54), .int x1, .int x2, .int (0 : Int32)]) (st := []) o (CT.lfN_i (ct_X_chosen o.hD.N h) o.hD) mi_X_chosen q_240 q_241 (xRo_of (by omega) (by decide)) rfl rfl (Nat.le_of_ble_eq_true rfl) d_X_and_25 (kk_2_i rfl (fun r25 N_25 h => ?_))
  exact gw_iret (pc := 28) o ⟨Nat.le_refl _, Nat.le_refl _⟩ (z12_i.mk h) d_X_and_28
def w_X_and  (E : xF) (N : xF) (x1 : Int32) (x2 : Int32) (Z : Int32 → xF → xF → Prop) : Prop := X_and_b0  Z E N x1 x2
theorem ct_X_and {l : Launch} {τ : xT} {E : xF} {N : xF} {x1 : Int32} {x2 : Int32} {Z : Int32 → xF → xF → Prop} (hD : xD (wdX τ)) (h : w_X_and  E N x1 x2 Z) : CT l (wdX τ) y_X_and (.code y_X_and b_X_and 3 (some .int)) (xR 20) [.ref (τ.2.2 30), .int x1, .int x2] (E, N) (z12_i Z) := by
  subst_vars
  exact CT.of (by decide) (Nat.le_of_ble_eq_true rfl) hD (fun κ hl ha o => gw_sub (lv' := [(0, .ref (τ.2.2 30)), (1, .int x1), (2, .int x2)]) [0, 1, 2] rfl (wk_X_and_b0 o h))
def X_or_b0 (Z : Int32 → xF → xF → Prop) (E : xF) (N : xF) (x1 : Int32) (x2 : Int32) : Prop := ∀ E_6 : xF, E_6 = xs E 24 (2 : Int32).toNatClampNeg x1 → (∀ E_13 : xF, E_13 = xs E_6 24 (3 : Int32).toNatClampNeg x2 → (w_X_begin E_13 N (fun N_15 => w_X_chosen 16 N_15 x1 (1 : Int32) x2 (fun r25 N_25 => Z r25 E_13 N_25))))
set_option maxRecDepth 10000 in
theorem wk_X_or_b0 {κ : Cx} {τ : xT} {Z : Int32 → xF → xF → Prop} {E : xF} {N : xF} {x1 : Int32} {x2 : Int32} (o : OKc κ (wdX τ) 3 b_X_or "StateExplorer" (some .int) (xR 20)) (h : X_or_b0 Z E N x1 x2) : GW κ (wdX τ) 3 (0, 0) (xMQ κ (wdX τ) (xR 20) (z12_i Z)) (E, N) 0 [(0, .ref (τ.2.2 30)), (1, .int x1), (2, .int x2)] [] := by
  unfold X_or_b0 at h
  refine gw_aload_n (pc := 0) o d_X_or_0 rfl 0 rfl ?_
  refine gE_get_spare (pc := 1) o q_104 d_X_or_1 ?_
  refine gw_iconst (pc := 4) (v := (2 : Int32)) o d_X_or_4 (by decide) ?_
  refine gw_iload_n (pc := 5) o d_X_or_5 rfl 1 rfl ?_
  refine gE_ast_spare (pc := 6) o (by unfold vp_in; decide) d_X_or_6 (fun E_6 eE_6 => ?_)
  have h := h E_6 eE_6
  refine gw_aload_n (pc := 7) o d_X_or_7 rfl 0 rfl ?_
  refine gE_get_spare (pc := 8) o q_104 d_X_or_8 ?_
  refine gw_iconst (pc := 11) (v := (3 : Int32)) o d_X_or_11 (by decide) ?_
  refine gw_iload_n (pc := 12) o d_X_or_12 rfl 2 rfl ?_
  refine gE_ast_spare (pc := 13) o (by unfold vp_in; decide) d_X_or_13 (fun E_13 eE_13 => ?_)
  have h := h E_13 eE_13
  refine gw_aload_n (pc := 14) o d_X_or_14 rfl 0 rfl ?_
  refine gw_callV (pc := 15) (b := τ.2.2 30) (As := []) (st := []) o (ct_X_begin o.hD h) mi_X_begin q_193 q_195 qs_3 0 rfl rfl (xRo_of (by omega) (by decide)) rfl rfl (Nat.le_of_ble_eq_true rfl) d_X_or_15 (kk_2_v rfl (fun N_15 h => ?_))
  refine gw_aload_n (pc := 18) o d_X_or_18 rfl 0 rfl ?_
  refine gE_get_nodes (pc := 19) o q_80 d_X_or_19 ?_
  refine gw_iload_n (pc := 22) o d_X_or_22 rfl 1 rfl ?_
  refine gw_iconst (pc := 23) (v := (1 : Int32)) o d_X_or_23 (by decide) ?_
  refine gw_iload_n (pc := 24) o d_X_or_24 rfl 2 rfl ?_
  refine gw_callS (pc := 25) (As := [.ref (τ.2.2 54), .int x1, .int (1 : Int32), .int x2]) (st := []) o (CT.lfN_i (ct_X_chosen o.hD.N h) o.hD) mi_X_chosen q_240 q_241 (xRo_of (by omega) (by decide)) rfl rfl (Nat.le_of_ble_eq_true rfl) d_X_or_25 (kk_2_i rfl (fun r25 N_25 h => ?_))
  exact gw_iret (pc := 28) o ⟨Nat.le_refl _, Nat.le_refl _⟩ (z12_i.mk h) d_X_or_28
def w_X_or  (E : xF) (N : xF) (x1 : Int32) (x2 : Int32) (Z : Int32 → xF → xF → Prop) : Prop := X_or_b0  Z E N x1 x2
theorem ct_X_or {l : Launch} {τ : xT} {E : xF} {N : xF} {x1 : Int32} {x2 : Int32} {Z : Int32 → xF → xF → Prop} (hD : xD (wdX τ)) (h : w_X_or  E N x1 x2 Z) : CT l (wdX τ) y_X_or (.code y_X_or b_X_or 3 (some .int)) (xR 20) [.ref (τ.2.2 30), .int x1, .int x2] (E, N) (z12_i Z) := by
  subst_vars
  exact CT.of (by decide) (Nat.le_of_ble_eq_true rfl) hD (fun κ hl ha o => gw_sub (lv' := [(0, .ref (τ.2.2 30)), (1, .int x1), (2, .int x2)]) [0, 1, 2] rfl (wk_X_or_b0 o h))
def X_not_b0 (Z : Int32 → xF → xF → Prop) (E : xF) (N : xF) (x1 : Int32) : Prop := ∀ E_6 : xF, E_6 = xs E 24 (2 : Int32).toNatClampNeg x1 → (w_X_begin E_6 N (fun N_8 => w_X_chosen 16 N_8 x1 (0 : Int32) (1 : Int32) (fun r18 N_18 => Z r18 E_6 N_18)))
set_option maxRecDepth 10000 in
theorem wk_X_not_b0 {κ : Cx} {τ : xT} {Z : Int32 → xF → xF → Prop} {E : xF} {N : xF} {x1 : Int32} (o : OKc κ (wdX τ) 2 b_X_not "StateExplorer" (some .int) (xR 20)) (h : X_not_b0 Z E N x1) : GW κ (wdX τ) 2 (0, 0) (xMQ κ (wdX τ) (xR 20) (z12_i Z)) (E, N) 0 [(0, .ref (τ.2.2 30)), (1, .int x1)] [] := by
  unfold X_not_b0 at h
  refine gw_aload_n (pc := 0) o d_X_not_0 rfl 0 rfl ?_
  refine gE_get_spare (pc := 1) o q_104 d_X_not_1 ?_
  refine gw_iconst (pc := 4) (v := (2 : Int32)) o d_X_not_4 (by decide) ?_
  refine gw_iload_n (pc := 5) o d_X_not_5 rfl 1 rfl ?_
  refine gE_ast_spare (pc := 6) o (by unfold vp_in; decide) d_X_not_6 (fun E_6 eE_6 => ?_)
  have h := h E_6 eE_6
  refine gw_aload_n (pc := 7) o d_X_not_7 rfl 0 rfl ?_
  refine gw_callV (pc := 8) (b := τ.2.2 30) (As := []) (st := []) o (ct_X_begin o.hD h) mi_X_begin q_193 q_195 qs_3 0 rfl rfl (xRo_of (by omega) (by decide)) rfl rfl (Nat.le_of_ble_eq_true rfl) d_X_not_8 (kk_2_v rfl (fun N_8 h => ?_))
  refine gw_aload_n (pc := 11) o d_X_not_11 rfl 0 rfl ?_
  refine gE_get_nodes (pc := 12) o q_80 d_X_not_12 ?_
  refine gw_iload_n (pc := 15) o d_X_not_15 rfl 1 rfl ?_
  refine gw_iconst (pc := 16) (v := (0 : Int32)) o d_X_not_16 (by decide) ?_
  refine gw_iconst (pc := 17) (v := (1 : Int32)) o d_X_not_17 (by decide) ?_
  refine gw_callS (pc := 18) (As := [.ref (τ.2.2 54), .int x1, .int (0 : Int32), .int (1 : Int32)]) (st := []) o (CT.lfN_i (ct_X_chosen o.hD.N h) o.hD) mi_X_chosen q_240 q_241 (xRo_of (by omega) (by decide)) rfl rfl (Nat.le_of_ble_eq_true rfl) d_X_not_18 (kk_2_i rfl (fun r18 N_18 h => ?_))
  exact gw_iret (pc := 21) o ⟨Nat.le_refl _, Nat.le_refl _⟩ (z12_i.mk h) d_X_not_21
def w_X_not  (E : xF) (N : xF) (x1 : Int32) (Z : Int32 → xF → xF → Prop) : Prop := X_not_b0  Z E N x1
theorem ct_X_not {l : Launch} {τ : xT} {E : xF} {N : xF} {x1 : Int32} {Z : Int32 → xF → xF → Prop} (hD : xD (wdX τ)) (h : w_X_not  E N x1 Z) : CT l (wdX τ) y_X_not (.code y_X_not b_X_not 2 (some .int)) (xR 20) [.ref (τ.2.2 30), .int x1] (E, N) (z12_i Z) := by
  subst_vars
  exact CT.of (by decide) (Nat.le_of_ble_eq_true rfl) hD (fun κ hl ha o => gw_sub (lv' := [(0, .ref (τ.2.2 30)), (1, .int x1)]) [0, 1] rfl (wk_X_not_b0 o h))
def X_variable_b0 (Z : Int32 → xF → Prop) (E : xF) (N : xF) (x1 : Int32) : Prop := w_X_begin E N (fun N_1 => w_N_node N_1 x1 (0 : Int32) (1 : Int32) (fun r11 N_11 => Z r11 N_11))
set_option maxRecDepth 10000 in
theorem wk_X_variable_b0 {κ : Cx} {τ : xT} {Z : Int32 → xF → Prop} {E : xF} {N : xF} {x1 : Int32} (o : OKc κ (wdX τ) 2 b_X_variable "StateExplorer" (some .int) (xR 19)) (h : X_variable_b0 Z E N x1) : GW κ (wdX τ) 2 (0, 0) (xMQ κ (wdX τ) (xR 19) (z2_i E Z)) (E, N) 0 [(0, .ref (τ.2.2 30)), (1, .int x1)] [] := by
  unfold X_variable_b0 at h
  refine gw_aload_n (pc := 0) o d_X_variable_0 rfl 0 rfl ?_
  refine gw_callV (pc := 1) (b := τ.2.2 30) (As := []) (st := []) o (ct_X_begin o.hD h) mi_X_begin q_193 q_195 qs_3 0 rfl rfl (xRo_of (by omega) (by decide)) rfl rfl (Nat.le_of_ble_eq_true rfl) d_X_variable_1 (kk_2_v rfl (fun N_1 h => ?_))
  refine gw_aload_n (pc := 4) o d_X_variable_4 rfl 0 rfl ?_
  refine gE_get_nodes (pc := 5) o q_80 d_X_variable_5 ?_
  refine gw_iload_n (pc := 8) o d_X_variable_8 rfl 1 rfl ?_
  refine gw_iconst (pc := 9) (v := (0 : Int32)) o d_X_variable_9 (by decide) ?_
  refine gw_iconst (pc := 10) (v := (1 : Int32)) o d_X_variable_10 (by decide) ?_
  refine gw_callV (pc := 11) (b := τ.2.2 54) (As := [.int x1, .int (0 : Int32), .int (1 : Int32)]) (st := []) o (CT.lfN_i (ct_N_node o.hD.N h) o.hD) mi_N_node q_228 q_229 q_230 19 rfl rfl (xRo_of (by omega) (by decide)) rfl rfl (Nat.le_of_ble_eq_true rfl) d_X_variable_11 (kk_2_i rfl (fun r11 N_11 h => ?_))
  exact gw_iret (pc := 14) o ⟨Nat.le_refl _, Nat.le_refl _⟩ (z2_i.mk h) d_X_variable_14
def w_X_variable  (E : xF) (N : xF) (x1 : Int32) (Z : Int32 → xF → Prop) : Prop := X_variable_b0  Z E N x1
theorem ct_X_variable {l : Launch} {τ : xT} {E : xF} {N : xF} {x1 : Int32} {Z : Int32 → xF → Prop} (hD : xD (wdX τ)) (h : w_X_variable  E N x1 Z) : CT l (wdX τ) y_X_variable (.code y_X_variable b_X_variable 2 (some .int)) (xR 19) [.ref (τ.2.2 30), .int x1] (E, N) (z2_i E Z) := by
  subst_vars
  exact CT.of (by decide) (Nat.le_of_ble_eq_true rfl) hD (fun κ hl ha o => gw_sub (lv' := [(0, .ref (τ.2.2 30)), (1, .int x1)]) [0, 1] rfl (wk_X_variable_b0 o h))
def X_before_b0 (f : xF → xF → Int32 → (Int32 → xF → Prop) → Prop) (Z : Int32 → xF → Prop) (E : xF) (N : xF) (x1 : Int32) : Prop := (((2 : Int32) ≤ x1) → (w_N_known N (2 : Int32) x1 (0 : Int32) (0 : Int32) (fun r12 => ((r12 = (-1 : Int32)) → (w_N_level N x1 (fun r25 => w_X_variableOf r25 (fun r28 => vp_in x1 262144 ∧ (f E N (N 1 x1.toNatClampNeg) (fun r41 N_41 => vp_in x1 262144 ∧ (f E N_41 (N_41 2 x1.toNatClampNeg) (fun r54 N_54 => vp_in r28 8 ∧ (w_X_chosen 16 N_54 (E 16 r28.toNatClampNeg) r54 r41 (fun r73 N_73 => w_N_learn N_73 (2 : Int32) x1 (0 : Int32) (0 : Int32) r73 (fun r76 N_76 => Z r76 N_76))))))))))) ∧ (¬ (r12 = (-1 : Int32)) → (Z r12 N))))) ∧ (¬ ((2 : Int32) ≤ x1) → (Z x1 N))
set_option maxRecDepth 10000 in
theorem wk_X_before_b0 {κ : Cx} {τ : xT} {d : Nat} {f : xF → xF → Int32 → (Int32 → xF → Prop) → Prop} {Z : Int32 → xF → Prop} {E : xF} {N : xF} {x1 : Int32} (o : OKc κ (wdX τ) 7 b_X_before "StateExplorer" (some .int) (xR (20 + d + 1))) (hf : ∀ (E : xF) (N : xF) (x1 : Int32) (Z : Int32 → xF → Prop), f E N x1 Z → CT (kL κ) (wdX τ) y_X_before (.code y_X_before b_X_before 7 (some .int)) (xR (20 + d)) [.ref (τ.2.2 54), .int x1, .ref (τ.2.2 16)] (E, N) (z2_i E Z)) (h : X_before_b0 f Z E N x1) : GW κ (wdX τ) 7 (0, 0) (xMQ κ (wdX τ) (xR (20 + d + 1)) (z2_i E Z)) (E, N) 0 [(0, .ref (τ.2.2 54)), (1, .int x1), (2, .ref (τ.2.2 16))] [] := by
  unfold X_before_b0 at h
  refine gw_iload_n (pc := 0) o d_X_before_0 rfl 1 rfl ?_
  refine gw_iconst (pc := 1) (v := (2 : Int32)) o d_X_before_1 (by decide) ?_
  refine gw_icmp_ge (pc := 2) (tgt := 7) o d_X_before_2 (by decide) (fun hc => ?_) (fun hc => ?_)
  · have h := h.1 hc
    refine gw_aload_n (pc := 7) o d_X_before_7 rfl 0 rfl ?_
    refine gw_iconst (pc := 8) (v := (2 : Int32)) o d_X_before_8 (by decide) ?_
    refine gw_iload_n (pc := 9) o d_X_before_9 rfl 1 rfl ?_
    refine gw_iconst (pc := 10) (v := (0 : Int32)) o d_X_before_10 (by decide) ?_
    refine gw_iconst (pc := 11) (v := (0 : Int32)) o d_X_before_11 (by decide) ?_
    refine gw_callV (pc := 12) (b := τ.2.2 54) (As := [.int (2 : Int32), .int x1, .int (0 : Int32), .int (0 : Int32)]) (st := []) o (CT.lfP_i (ct_N_known o.hD.N h) o.hD) mi_N_known q_243 q_244 q_245 19 rfl rfl (xRo_of (by omega) (by decide)) rfl rfl (Nat.le_of_ble_eq_true rfl) d_X_before_12 (kk_p_i rfl (fun r12 h => ?_))
    refine gw_istore_n (pc := 15) (lv' := [(3, .int r12), (0, .ref (τ.2.2 54)), (1, .int x1), (2, .ref (τ.2.2 16))]) o d_X_before_15 rfl (by decide) rfl ?_
    refine gw_iload_n (pc := 16) o d_X_before_16 rfl 0 rfl ?_
    refine gw_iconst (pc := 17) (v := (-1 : Int32)) o d_X_before_17 (by decide) ?_
    refine gw_icmp_eq (pc := 18) (tgt := 23) o d_X_before_18 (by decide) (fun hc => ?_) (fun hc => ?_)
    · have h := h.1 hc
      refine gw_aload_n (pc := 23) o d_X_before_23 rfl 1 rfl ?_
      refine gw_iload_n (pc := 24) o d_X_before_24 rfl 2 rfl ?_
      refine gw_callV (pc := 25) (b := τ.2.2 54) (As := [.int x1]) (st := []) o (CT.lfP_i (ct_N_level o.hD.N h) o.hD) mi_N_level q_254 q_255 q_256 19 rfl rfl (xRo_of (by omega) (by decide)) rfl rfl (Nat.le_of_ble_eq_true rfl) d_X_before_25 (kk_p_i rfl (fun r25 h => ?_))
      refine gw_callS (pc := 28) (As := [.int r25]) (st := []) o (ct_X_variableOf o.hD h) mi_X_variableOf q_186 q_187 (xRo_of (by omega) (by decide)) rfl rfl (Nat.le_of_ble_eq_true rfl) d_X_before_28 (kk_p_i rfl (fun r28 h => ?_))
      refine gw_istore (pc := 31) (lv' := [(4, .int r28), (3, .int r12), (0, .ref (τ.2.2 54)), (1, .int x1), (2, .ref (τ.2.2 16))]) o d_X_before_31 (by decide) rfl ?_
      refine gw_aload_n (pc := 33) o d_X_before_33 rfl 2 rfl ?_
      refine gw_aload_n (pc := 34) o d_X_before_34 rfl 2 rfl ?_
      refine gX_getN_lows (pc := 35) o d_X_before_35 ?_
      refine gw_iload_n (pc := 38) o d_X_before_38 rfl 3 rfl ?_
      have hi := h.1
      have h := h.2
      refine gX_ald_lows (pc := 39) o hi d_X_before_39 ?_
      refine gw_aload_n (pc := 40) o d_X_before_40 rfl 4 rfl ?_
      refine gw_callS (pc := 41) (As := [.ref (τ.2.2 54), .int (N 1 x1.toNatClampNeg), .ref (τ.2.2 16)]) (st := []) o (hf _ _ _ _ h) mi_X_before q_487 q_488 (xRo_of (by omega) (by decide)) rfl rfl (Nat.le_of_ble_eq_true rfl) d_X_before_41 (kk_2_i rfl (fun r41 N_41 h => ?_))
      refine gw_istore (pc := 44) (lv' := [(5, .int r41), (4, .int r28), (3, .int r12), (0, .ref (τ.2.2 54)), (1, .int x1), (2, .ref (τ.2.2 16))]) o d_X_before_44 (by decide) rfl ?_
      refine gw_aload_n (pc := 46) o d_X_before_46 rfl 3 rfl ?_
      refine gw_aload_n (pc := 47) o d_X_before_47 rfl 3 rfl ?_
      refine gX_getN_highs (pc := 48) o d_X_before_48 ?_
      refine gw_iload_n (pc := 51) o d_X_before_51 rfl 4 rfl ?_
      have hi := h.1
      have h := h.2
      refine gX_ald_highs (pc := 52) o hi d_X_before_52 ?_
      refine gw_aload_n (pc := 53) o d_X_before_53 rfl 5 rfl ?_
      refine gw_callS (pc := 54) (As := [.ref (τ.2.2 54), .int (N_41 2 x1.toNatClampNeg), .ref (τ.2.2 16)]) (st := []) o (hf _ _ _ _ h) mi_X_before q_487 q_488 (xRo_of (by omega) (by decide)) rfl rfl (Nat.le_of_ble_eq_true rfl) d_X_before_54 (kk_2_i rfl (fun r54 N_54 h => ?_))
      refine gw_istore (pc := 57) (lv' := [(6, .int r54), (5, .int r41), (4, .int r28), (3, .int r12), (0, .ref (τ.2.2 54)), (1, .int x1), (2, .ref (τ.2.2 16))]) o d_X_before_57 (by decide) rfl ?_
      refine gw_aload_n (pc := 59) o d_X_before_59 rfl 4 rfl ?_
      refine gw_iconst (pc := 60) (v := (2 : Int32)) o d_X_before_60 (by decide) ?_
      refine gw_iload_n (pc := 61) o d_X_before_61 rfl 5 rfl ?_
      refine gw_iconst (pc := 62) (v := (0 : Int32)) o d_X_before_62 (by decide) ?_
      refine gw_iconst (pc := 63) (v := (0 : Int32)) o d_X_before_63 (by decide) ?_
      refine gw_aload_n (pc := 64) o d_X_before_64 rfl 4 rfl ?_
      refine gw_aload_n (pc := 65) o d_X_before_65 rfl 6 rfl ?_
      refine gw_iload (pc := 66) o d_X_before_66 2 rfl ?_
      have hi := h.1
      have h := h.2
      refine gE_ald_nexts (pc := 68) o hi d_X_before_68 ?_
      refine gw_iload (pc := 69) o d_X_before_69 0 rfl ?_
      refine gw_iload (pc := 71) o d_X_before_71 1 rfl ?_
      refine gw_callS (pc := 73) (As := [.ref (τ.2.2 54), .int (E 16 r28.toNatClampNeg), .int r54, .int r41]) (st := [.int (0 : Int32), .int (0 : Int32), .int x1, .int (2 : Int32), .ref (τ.2.2 54)]) o (CT.lfN_i (ct_X_chosen o.hD.N h) o.hD) mi_X_chosen q_240 q_241 (xRo_of (by omega) (by decide)) rfl rfl (Nat.le_of_ble_eq_true rfl) d_X_before_73 (kk_2_i rfl (fun r73 N_73 h => ?_))
      refine gw_callV (pc := 76) (b := τ.2.2 54) (As := [.int (2 : Int32), .int x1, .int (0 : Int32), .int (0 : Int32), .int r73]) (st := []) o (CT.lfN_i (ct_N_learn o.hD.N h) o.hD) mi_N_learn q_265 q_266 q_267 19 rfl rfl (xRo_of (by omega) (by decide)) rfl rfl (Nat.le_of_ble_eq_true rfl) d_X_before_76 (kk_2_i rfl (fun r76 N_76 h => ?_))
      exact gw_iret (pc := 79) o ⟨Nat.le_refl _, Nat.le_refl _⟩ (z2_i.mk h) d_X_before_79
    · have h := h.2 hc
      refine gw_iload_n (pc := 21) o d_X_before_21 rfl 0 rfl ?_
      exact gw_iret (pc := 22) o ⟨Nat.le_refl _, Nat.le_refl _⟩ (z2_i.mk h) d_X_before_22
  · have h := h.2 hc
    refine gw_iload_n (pc := 5) o d_X_before_5 rfl 1 rfl ?_
    exact gw_iret (pc := 6) o ⟨Nat.le_refl _, Nat.le_refl _⟩ (z2_i.mk h) d_X_before_6
def w_X_before : Nat → xF → xF → Int32 → (Int32 → xF → Prop) → Prop
  | 0, _, _, _, _ => False
  | d + 1, E, N, x1, Z => X_before_b0  (w_X_before d)  Z E N x1
theorem ct_X_before {l : Launch} {τ : xT} (hD : xD (wdX τ)) : ∀ {d : Nat} {E : xF} {N : xF} {x1 : Int32} {Z : Int32 → xF → Prop} (h : w_X_before d E N x1 Z), CT l (wdX τ) y_X_before (.code y_X_before b_X_before 7 (some .int)) (xR (20 + d)) [.ref (τ.2.2 54), .int x1, .ref (τ.2.2 16)] (E, N) (z2_i E Z) := by
  intro d
  induction d with
  | zero => intro E N x1 Z h; exact h.elim
  | succ d ih =>
    intro E N x1 Z h
    exact CT.of (by decide) (Nat.le_of_ble_eq_true rfl) hD (fun κ hl ha o => gw_sub (lv' := [(0, .ref (τ.2.2 54)), (1, .int x1), (2, .ref (τ.2.2 16))]) [0, 1, 2] rfl (wk_X_before_b0 o (fun _ _ _ _ h => hl ▸ ih h) h))
def X_after_b17 (f : xF → xF → Int32 → Int32 → (Int32 → xF → xF → Prop) → Prop) (Z : Int32 → xF → xF → Prop) (E : xF) (N : xF) (s0 : Int32) : Prop := Z s0 E N
set_option maxRecDepth 10000 in
theorem wk_X_after_b17 {κ : Cx} {τ : xT} {d : Nat} {f : xF → xF → Int32 → Int32 → (Int32 → xF → xF → Prop) → Prop} {Z : Int32 → xF → xF → Prop} {E : xF} {N : xF} {s0 : Int32} (o : OKc κ (wdX τ) 4 b_X_after "StateExplorer" (some .int) (xR (20 + d + 1))) (hf : ∀ (E : xF) (N : xF) (x1 : Int32) (x2 : Int32) (Z : Int32 → xF → xF → Prop), f E N x1 x2 Z → CT (kL κ) (wdX τ) y_X_after (.code y_X_after b_X_after 4 (some .int)) (xR (20 + d)) [.ref (τ.2.2 30), .int x1, .int x2] (E, N) (z12_i Z)) (h : X_after_b17 f Z E N s0) : GW κ (wdX τ) 4 (0, 0) (xMQ κ (wdX τ) (xR (20 + d + 1)) (z12_i Z)) (E, N) 17 [] [.int s0] := by
  unfold X_after_b17 at h
  exact gw_iret (pc := 17) o ⟨Nat.le_refl _, Nat.le_refl _⟩ (z12_i.mk h) d_X_after_17
def X_after_b8 (f : xF → xF → Int32 → Int32 → (Int32 → xF → xF → Prop) → Prop) (Z : Int32 → xF → xF → Prop) (E : xF) (N : xF) (x1 : Int32) : Prop := ((x1 = 0) → (X_after_b17 f Z E N (0 : Int32))) ∧ (¬ (x1 = 0) → (X_after_b17 f Z E N (1 : Int32)))
set_option maxRecDepth 10000 in
theorem wk_X_after_b8 {κ : Cx} {τ : xT} {d : Nat} {f : xF → xF → Int32 → Int32 → (Int32 → xF → xF → Prop) → Prop} {Z : Int32 → xF → xF → Prop} {E : xF} {N : xF} {x1 : Int32} (o : OKc κ (wdX τ) 4 b_X_after "StateExplorer" (some .int) (xR (20 + d + 1))) (hf : ∀ (E : xF) (N : xF) (x1 : Int32) (x2 : Int32) (Z : Int32 → xF → xF → Prop), f E N x1 x2 Z → CT (kL κ) (wdX τ) y_X_after (.code y_X_after b_X_after 4 (some .int)) (xR (20 + d)) [.ref (τ.2.2 30), .int x1, .int x2] (E, N) (z12_i Z)) (h : X_after_b8 f Z E N x1) : GW κ (wdX τ) 4 (0, 0) (xMQ κ (wdX τ) (xR (20 + d + 1)) (z12_i Z)) (E, N) 8 [(1, .int x1)] [] := by
  unfold X_after_b8 at h
  refine gw_iload_n (pc := 8) o d_X_after_8 rfl 0 rfl ?_
  refine gw_if_ne (pc := 9) (tgt := 16) o d_X_after_9 (by decide) (fun hc => ?_) (fun hc => ?_)
  · have h := h.2 hc
    refine gw_iconst (pc := 16) (v := (1 : Int32)) o d_X_after_16 (by decide) ?_
    exact gw_sub (lv' := []) [] rfl (wk_X_after_b17 o hf h)
  · have h := h.1 hc
    refine gw_iconst (pc := 12) (v := (0 : Int32)) o d_X_after_12 (by decide) ?_
    refine gw_goto (pc := 13) (tgt := 17) o d_X_after_13 (by decide) ?_
    exact gw_sub (lv' := []) [] rfl (wk_X_after_b17 o hf h)
def X_after_b0 (f : xF → xF → Int32 → Int32 → (Int32 → xF → xF → Prop) → Prop) (Z : Int32 → xF → xF → Prop) (E : xF) (N : xF) (x1 : Int32) (x2 : Int32) : Prop := ((x1 = 0) → (X_after_b8 f Z E N x1)) ∧ (¬ (x1 = 0) → (((0 ≤ x2) → (vp_in x2 8 ∧ (∀ E_24 : xF, E_24 = xs E 25 x2.toNatClampNeg x1 → (w_X_begin E_24 N (fun N_26 => vp_in x2 8 ∧ (w_X_chosen 16 N_26 (E_24 16 x2.toNatClampNeg) (0 : Int32) x1 (fun r47 N_47 => f E_24 N_47 r47 (x2 - (1 : Int32)) (fun r53 E_53 N_53 => vp_in x2 8 ∧ (∀ E_56 : xF, E_56 = xs E_53 26 x2.toNatClampNeg r53 → (w_X_begin E_56 N_53 (fun N_58 => vp_in x2 8 ∧ (vp_in x2 8 ∧ (w_X_chosen 16 N_58 (E_56 16 x2.toNatClampNeg) (E_56 25 x2.toNatClampNeg) (0 : Int32) (fun r79 N_79 => f E_56 N_79 r79 (x2 - (1 : Int32)) (fun r85 E_85 N_85 => w_X_variableOf x2 (fun r94 => vp_in x2 8 ∧ (w_N_node N_85 r94 (E_85 26 x2.toNatClampNeg) r85 (fun r104 N_104 => Z r104 E_85 N_104)))))))))))))))))) ∧ (¬ (0 ≤ x2) → (X_after_b8 f Z E N x1))))
set_option maxRecDepth 10000 in
theorem wk_X_after_b0 {κ : Cx} {τ : xT} {d : Nat} {f : xF → xF → Int32 → Int32 → (Int32 → xF → xF → Prop) → Prop} {Z : Int32 → xF → xF → Prop} {E : xF} {N : xF} {x1 : Int32} {x2 : Int32} (o : OKc κ (wdX τ) 4 b_X_after "StateExplorer" (some .int) (xR (20 + d + 1))) (hf : ∀ (E : xF) (N : xF) (x1 : Int32) (x2 : Int32) (Z : Int32 → xF → xF → Prop), f E N x1 x2 Z → CT (kL κ) (wdX τ) y_X_after (.code y_X_after b_X_after 4 (some .int)) (xR (20 + d)) [.ref (τ.2.2 30), .int x1, .int x2] (E, N) (z12_i Z)) (h : X_after_b0 f Z E N x1 x2) : GW κ (wdX τ) 4 (0, 0) (xMQ κ (wdX τ) (xR (20 + d + 1)) (z12_i Z)) (E, N) 0 [(0, .ref (τ.2.2 30)), (1, .int x1), (2, .int x2)] [] := by
  unfold X_after_b0 at h
  refine gw_iload_n (pc := 0) o d_X_after_0 rfl 1 rfl ?_
  refine gw_if_eq (pc := 1) (tgt := 8) o d_X_after_1 (by decide) (fun hc => ?_) (fun hc => ?_)
  · have h := h.1 hc
    exact gw_sub (lv' := [(1, .int x1)]) [1] rfl (wk_X_after_b8 o hf h)
  · have h := h.2 hc
    refine gw_iload_n (pc := 4) o d_X_after_4 rfl 2 rfl ?_
    refine gw_if_ge (pc := 5) (tgt := 18) o d_X_after_5 (by decide) (fun hc => ?_) (fun hc => ?_)
    · have h := h.1 hc
      refine gw_aload_n (pc := 18) o d_X_after_18 rfl 0 rfl ?_
      refine gE_get_whole (pc := 19) o q_105 d_X_after_19 ?_
      refine gw_iload_n (pc := 22) o d_X_after_22 rfl 2 rfl ?_
      refine gw_iload_n (pc := 23) o d_X_after_23 rfl 1 rfl ?_
      have hi := h.1
      have h := h.2
      refine gE_ast_whole (pc := 24) o hi d_X_after_24 (fun E_24 eE_24 => ?_)
      have h := h E_24 eE_24
      refine gw_aload_n (pc := 25) o d_X_after_25 rfl 0 rfl ?_
      refine gw_callV (pc := 26) (b := τ.2.2 30) (As := []) (st := []) o (ct_X_begin o.hD h) mi_X_begin q_193 q_195 qs_3 0 rfl rfl (xRo_of (by omega) (by decide)) rfl rfl (Nat.le_of_ble_eq_true rfl) d_X_after_26 (kk_2_v rfl (fun N_26 h => ?_))
      refine gw_aload_n (pc := 29) o d_X_after_29 rfl 0 rfl ?_
      refine gE_get_halves (pc := 30) o q_106 d_X_after_30 ?_
      refine gw_iload_n (pc := 33) o d_X_after_33 rfl 2 rfl ?_
      refine gw_aload_n (pc := 34) o d_X_after_34 rfl 0 rfl ?_
      refine gw_aload_n (pc := 35) o d_X_after_35 rfl 0 rfl ?_
      refine gE_get_nodes (pc := 36) o q_80 d_X_after_36 ?_
      refine gw_aload_n (pc := 39) o d_X_after_39 rfl 0 rfl ?_
      refine gE_get_nexts (pc := 40) o q_96 d_X_after_40 ?_
      refine gw_iload_n (pc := 43) o d_X_after_43 rfl 2 rfl ?_
      have hi := h.1
      have h := h.2
      refine gE_ald_nexts (pc := 44) o hi d_X_after_44 ?_
      refine gw_iconst (pc := 45) (v := (0 : Int32)) o d_X_after_45 (by decide) ?_
      refine gw_iload_n (pc := 46) o d_X_after_46 rfl 1 rfl ?_
      refine gw_callS (pc := 47) (As := [.ref (τ.2.2 54), .int (E_24 16 x2.toNatClampNeg), .int (0 : Int32), .int x1]) (st := [.ref (τ.2.2 30), .int x2, .ref (τ.2.2 26)]) o (CT.lfN_i (ct_X_chosen o.hD.N h) o.hD) mi_X_chosen q_240 q_241 (xRo_of (by omega) (by decide)) rfl rfl (Nat.le_of_ble_eq_true rfl) d_X_after_47 (kk_2_i rfl (fun r47 N_47 h => ?_))
      refine gw_iload_n (pc := 50) o d_X_after_50 rfl 2 rfl ?_
      refine gw_iconst (pc := 51) (v := (1 : Int32)) o d_X_after_51 (by decide) ?_
      refine gw_isub (pc := 52) o d_X_after_52 ?_
      refine gw_callV (pc := 53) (b := τ.2.2 30) (As := [.int r47, .int (x2 - (1 : Int32))]) (st := [.int x2, .ref (τ.2.2 26)]) o (hf _ _ _ _ _ h) mi_X_after q_293 q_295 qs_14 0 rfl rfl (xRo_of (by omega) (by decide)) rfl rfl (Nat.le_of_ble_eq_true rfl) d_X_after_53 (kk_12_i rfl (fun r53 E_53 N_53 h => ?_))
      have hi := h.1
      have h := h.2
      refine gE_ast_halves (pc := 56) o hi d_X_after_56 (fun E_56 eE_56 => ?_)
      have h := h E_56 eE_56
      refine gw_aload_n (pc := 57) o d_X_after_57 rfl 0 rfl ?_
      refine gw_callV (pc := 58) (b := τ.2.2 30) (As := []) (st := []) o (ct_X_begin o.hD h) mi_X_begin q_193 q_195 qs_3 0 rfl rfl (xRo_of (by omega) (by decide)) rfl rfl (Nat.le_of_ble_eq_true rfl) d_X_after_58 (kk_2_v rfl (fun N_58 h => ?_))
      refine gw_aload_n (pc := 61) o d_X_after_61 rfl 0 rfl ?_
      refine gw_aload_n (pc := 62) o d_X_after_62 rfl 0 rfl ?_
      refine gE_get_nodes (pc := 63) o q_80 d_X_after_63 ?_
      refine gw_aload_n (pc := 66) o d_X_after_66 rfl 0 rfl ?_
      refine gE_get_nexts (pc := 67) o q_96 d_X_after_67 ?_
      refine gw_iload_n (pc := 70) o d_X_after_70 rfl 2 rfl ?_
      have hi := h.1
      have h := h.2
      refine gE_ald_nexts (pc := 71) o hi d_X_after_71 ?_
      refine gw_aload_n (pc := 72) o d_X_after_72 rfl 0 rfl ?_
      refine gE_get_whole (pc := 73) o q_105 d_X_after_73 ?_
      refine gw_iload_n (pc := 76) o d_X_after_76 rfl 2 rfl ?_
      have hi := h.1
      have h := h.2
      refine gE_ald_whole (pc := 77) o hi d_X_after_77 ?_
      refine gw_iconst (pc := 78) (v := (0 : Int32)) o d_X_after_78 (by decide) ?_
      refine gw_callS (pc := 79) (As := [.ref (τ.2.2 54), .int (E_56 16 x2.toNatClampNeg), .int (E_56 25 x2.toNatClampNeg), .int (0 : Int32)]) (st := [.ref (τ.2.2 30)]) o (CT.lfN_i (ct_X_chosen o.hD.N h) o.hD) mi_X_chosen q_240 q_241 (xRo_of (by omega) (by decide)) rfl rfl (Nat.le_of_ble_eq_true rfl) d_X_after_79 (kk_2_i rfl (fun r79 N_79 h => ?_))
      refine gw_iload_n (pc := 82) o d_X_after_82 rfl 2 rfl ?_
      refine gw_iconst (pc := 83) (v := (1 : Int32)) o d_X_after_83 (by decide) ?_
      refine gw_isub (pc := 84) o d_X_after_84 ?_
      refine gw_callV (pc := 85) (b := τ.2.2 30) (As := [.int r79, .int (x2 - (1 : Int32))]) (st := []) o (hf _ _ _ _ _ h) mi_X_after q_293 q_295 qs_14 0 rfl rfl (xRo_of (by omega) (by decide)) rfl rfl (Nat.le_of_ble_eq_true rfl) d_X_after_85 (kk_12_i rfl (fun r85 E_85 N_85 h => ?_))
      refine gw_istore_n (pc := 88) (lv' := [(3, .int r85), (0, .ref (τ.2.2 30)), (1, .int x1), (2, .int x2)]) o d_X_after_88 rfl (by decide) rfl ?_
      refine gw_aload_n (pc := 89) o d_X_after_89 rfl 1 rfl ?_
      refine gE_get_nodes (pc := 90) o q_80 d_X_after_90 ?_
      refine gw_iload_n (pc := 93) o d_X_after_93 rfl 3 rfl ?_
      refine gw_callS (pc := 94) (As := [.int x2]) (st := [.ref (τ.2.2 54)]) o (ct_X_variableOf o.hD h) mi_X_variableOf q_186 q_187 (xRo_of (by omega) (by decide)) rfl rfl (Nat.le_of_ble_eq_true rfl) d_X_after_94 (kk_p_i rfl (fun r94 h => ?_))
      refine gw_aload_n (pc := 97) o d_X_after_97 rfl 1 rfl ?_
      refine gE_get_halves (pc := 98) o q_106 d_X_after_98 ?_
      refine gw_iload_n (pc := 101) o d_X_after_101 rfl 3 rfl ?_
      have hi := h.1
      have h := h.2
      refine gE_ald_halves (pc := 102) o hi d_X_after_102 ?_
      refine gw_iload_n (pc := 103) o d_X_after_103 rfl 0 rfl ?_
      refine gw_callV (pc := 104) (b := τ.2.2 54) (As := [.int r94, .int (E_85 26 x2.toNatClampNeg), .int r85]) (st := []) o (CT.lfN_i (ct_N_node o.hD.N h) o.hD) mi_N_node q_228 q_229 q_230 19 rfl rfl (xRo_of (by omega) (by decide)) rfl rfl (Nat.le_of_ble_eq_true rfl) d_X_after_104 (kk_2_i rfl (fun r104 N_104 h => ?_))
      exact gw_iret (pc := 107) o ⟨Nat.le_refl _, Nat.le_refl _⟩ (z12_i.mk h) d_X_after_107
    · have h := h.2 hc
      exact gw_sub (lv' := [(1, .int x1)]) [1] rfl (wk_X_after_b8 o hf h)
def w_X_after : Nat → xF → xF → Int32 → Int32 → (Int32 → xF → xF → Prop) → Prop
  | 0, _, _, _, _, _ => False
  | d + 1, E, N, x1, x2, Z => X_after_b0  (w_X_after d)  Z E N x1 x2
theorem ct_X_after {l : Launch} {τ : xT} (hD : xD (wdX τ)) : ∀ {d : Nat} {E : xF} {N : xF} {x1 : Int32} {x2 : Int32} {Z : Int32 → xF → xF → Prop} (h : w_X_after d E N x1 x2 Z), CT l (wdX τ) y_X_after (.code y_X_after b_X_after 4 (some .int)) (xR (20 + d)) [.ref (τ.2.2 30), .int x1, .int x2] (E, N) (z12_i Z) := by
  intro d
  induction d with
  | zero => intro E N x1 x2 Z h; exact h.elim
  | succ d ih =>
    intro E N x1 x2 Z h
    exact CT.of (by decide) (Nat.le_of_ble_eq_true rfl) hD (fun κ hl ha o => gw_sub (lv' := [(0, .ref (τ.2.2 30)), (1, .int x1), (2, .int x2)]) [0, 1, 2] rfl (wk_X_after_b0 o (fun _ _ _ _ _ h => hl ▸ ih h) h))
def X_at_b56 (Z : Int32 → Prop) (k3 : Int32 → Prop) (E : xF) (N : xF) (x2 : Int32) (x3 : Int32) (s1 : Int32) (s2 : Int32) (s3 : Int32) : Prop := w_N_cofactor N s1 s2 s3 (fun r56 => k3 r56)
set_option maxRecDepth 10000 in
theorem wk_X_at_b56 {κ : Cx} {τ : xT} {Z : Int32 → Prop} {k3 : Int32 → Prop} {E : xF} {N : xF} {x2 : Int32} {x3 : Int32} {s1 : Int32} {s2 : Int32} {s3 : Int32} (o : OKc κ (wdX τ) 6 b_X_at "StateExplorer" (some .boolean) (xR 1)) (hk3 : ∀ (x4 : Int32), k3 x4 → GW κ (wdX τ) 6 (0, 0) (xMQ κ (wdX τ) (xR 1) (zp_i (E, N) Z)) (E, N) 3 [(0, .ref (τ.2.2 30)), (2, .int x2), (3, .int x3), (4, .int x4)] []) (h : X_at_b56 Z k3 E N x2 x3 s1 s2 s3) : GW κ (wdX τ) 6 (0, 0) (xMQ κ (wdX τ) (xR 1) (zp_i (E, N) Z)) (E, N) 56 [(0, .ref (τ.2.2 30)), (2, .int x2), (3, .int x3)] [.int s3, .int s2, .int s1, .ref (τ.2.2 54)] := by
  unfold X_at_b56 at h
  refine gw_callV (pc := 56) (b := τ.2.2 54) (As := [.int s1, .int s2, .int s3]) (st := []) o (CT.lfP_i (ct_N_cofactor o.hD.N h) o.hD) mi_N_cofactor q_261 q_262 q_263 19 rfl rfl (xRo_of (by omega) (by decide)) rfl rfl (Nat.le_of_ble_eq_true rfl) d_X_at_56 (kk_p_i rfl (fun r56 h => ?_))
  refine gw_istore (pc := 59) (lv' := [(4, .int r56), (0, .ref (τ.2.2 30)), (2, .int x2), (3, .int x3)]) o d_X_at_59 (by decide) rfl ?_
  refine gw_goto (pc := 61) (tgt := 3) o d_X_at_61 (by decide) ?_
  exact gw_sub (lv' := [(0, .ref (τ.2.2 30)), (2, .int x2), (3, .int x3), (4, .int r56)]) [1, 2, 3, 0] rfl (hk3 _ h)
def X_at_b75 (Z : Int32 → Prop) (E : xF) (N : xF) (s0 : Int32) : Prop := (s0 = 0 ∨ s0 = 1) ∧ (Z s0)
set_option maxRecDepth 10000 in
theorem wk_X_at_b75 {κ : Cx} {τ : xT} {Z : Int32 → Prop} {E : xF} {N : xF} {s0 : Int32} (o : OKc κ (wdX τ) 6 b_X_at "StateExplorer" (some .boolean) (xR 1)) (h : X_at_b75 Z E N s0) : GW κ (wdX τ) 6 (0, 0) (xMQ κ (wdX τ) (xR 1) (zp_i (E, N) Z)) (E, N) 75 [] [.int s0] := by
  unfold X_at_b75 at h
  exact gw_zret (pc := 75) o ⟨Nat.le_refl _, Nat.le_refl _⟩ h.1 (zp_i.mk h.2) d_X_at_75
def X_at_b3 (Z : Int32 → Prop) (k3 : Int32 → Prop) (E : xF) (N : xF) (x2 : Int32) (x3 : Int32) (x4 : Int32) : Prop := ((x4 ≤ (1 : Int32)) → (((x4 = (1 : Int32)) → (X_at_b75 Z E N (1 : Int32))) ∧ (¬ (x4 = (1 : Int32)) → (X_at_b75 Z E N (0 : Int32))))) ∧ (¬ (x4 ≤ (1 : Int32)) → (w_N_level N x4 (fun r15 => (((8 : Int32) ≤ r15) → (w_X_bit x3 ((11 : Int32) - r15) (fun r53 => X_at_b56 Z k3 E N x2 x3 x4 r15 r53))) ∧ (¬ ((8 : Int32) ≤ r15) → (w_X_variableOf r15 (fun r38 => w_X_bit x2 r38 (fun r41 => X_at_b56 Z k3 E N x2 x3 x4 r15 r41)))))))
set_option maxRecDepth 10000 in
theorem wk_X_at_b3 {κ : Cx} {τ : xT} {Z : Int32 → Prop} {k3 : Int32 → Prop} {E : xF} {N : xF} {x2 : Int32} {x3 : Int32} {x4 : Int32} (o : OKc κ (wdX τ) 6 b_X_at "StateExplorer" (some .boolean) (xR 1)) (hk3 : ∀ (x4 : Int32), k3 x4 → GW κ (wdX τ) 6 (0, 0) (xMQ κ (wdX τ) (xR 1) (zp_i (E, N) Z)) (E, N) 3 [(0, .ref (τ.2.2 30)), (2, .int x2), (3, .int x3), (4, .int x4)] []) (h : X_at_b3 Z k3 E N x2 x3 x4) : GW κ (wdX τ) 6 (0, 0) (xMQ κ (wdX τ) (xR 1) (zp_i (E, N) Z)) (E, N) 3 [(0, .ref (τ.2.2 30)), (2, .int x2), (3, .int x3), (4, .int x4)] [] := by
  unfold X_at_b3 at h
  refine gw_iload (pc := 3) o d_X_at_3 3 rfl ?_
  refine gw_iconst (pc := 5) (v := (1 : Int32)) o d_X_at_5 (by decide) ?_
  refine gw_icmp_le (pc := 6) (tgt := 64) o d_X_at_6 (by decide) (fun hc => ?_) (fun hc => ?_)
  · have h := h.1 hc
    refine gw_iload (pc := 64) o d_X_at_64 3 rfl ?_
    refine gw_iconst (pc := 66) (v := (1 : Int32)) o d_X_at_66 (by decide) ?_
    refine gw_icmp_ne (pc := 67) (tgt := 74) o d_X_at_67 (by decide) (fun hc => ?_) (fun hc => ?_)
    · have h := h.2 hc
      refine gw_iconst (pc := 74) (v := (0 : Int32)) o d_X_at_74 (by decide) ?_
      exact gw_sub (lv' := []) [] rfl (wk_X_at_b75 o h)
    · have h := h.1 hc
      refine gw_iconst (pc := 70) (v := (1 : Int32)) o d_X_at_70 (by decide) ?_
      refine gw_goto (pc := 71) (tgt := 75) o d_X_at_71 (by decide) ?_
      exact gw_sub (lv' := []) [] rfl (wk_X_at_b75 o h)
  · have h := h.2 hc
    refine gw_aload_n (pc := 9) o d_X_at_9 rfl 0 rfl ?_
    refine gE_get_nodes (pc := 10) o q_80 d_X_at_10 ?_
    refine gw_iload (pc := 13) o d_X_at_13 3 rfl ?_
    refine gw_callV (pc := 15) (b := τ.2.2 54) (As := [.int x4]) (st := []) o (CT.lfP_i (ct_N_level o.hD.N h) o.hD) mi_N_level q_254 q_255 q_256 19 rfl rfl (xRo_of (by omega) (by decide)) rfl rfl (Nat.le_of_ble_eq_true rfl) d_X_at_15 (kk_p_i rfl (fun r15 h => ?_))
    refine gw_istore (pc := 18) (lv' := [(5, .int r15), (0, .ref (τ.2.2 30)), (2, .int x2), (3, .int x3), (4, .int x4)]) o d_X_at_18 (by decide) rfl ?_
    refine gw_aload_n (pc := 20) o d_X_at_20 rfl 1 rfl ?_
    refine gE_get_nodes (pc := 21) o q_80 d_X_at_21 ?_
    refine gw_iload (pc := 24) o d_X_at_24 4 rfl ?_
    refine gw_iload (pc := 26) o d_X_at_26 0 rfl ?_
    refine gw_iload (pc := 28) o d_X_at_28 0 rfl ?_
    refine gw_bipush (pc := 30) (v := (8 : Int32)) o d_X_at_30 (by decide) ?_
    refine gw_icmp_ge (pc := 32) (tgt := 47) o d_X_at_32 (by decide) (fun hc => ?_) (fun hc => ?_)
    · have h := h.1 hc
      refine gw_iload_n (pc := 47) o d_X_at_47 rfl 3 rfl ?_
      refine gw_bipush (pc := 48) (v := (11 : Int32)) o d_X_at_48 (by decide) ?_
      refine gw_iload (pc := 50) o d_X_at_50 0 rfl ?_
      refine gw_isub (pc := 52) o d_X_at_52 ?_
      refine gw_callS (pc := 53) (As := [.int x3, .int ((11 : Int32) - r15)]) (st := [.int r15, .int x4, .ref (τ.2.2 54)]) o (ct_X_bit o.hD h) mi_X_bit q_290 q_291 (xRo_of (by omega) (by decide)) rfl rfl (Nat.le_of_ble_eq_true rfl) d_X_at_53 (kk_p_i rfl (fun r53 h => ?_))
      exact gw_sub (lv' := [(0, .ref (τ.2.2 30)), (2, .int x2), (3, .int x3)]) [1, 2, 3] rfl (wk_X_at_b56 o hk3 h)
    · have h := h.2 hc
      refine gw_iload_n (pc := 35) o d_X_at_35 rfl 2 rfl ?_
      refine gw_iload (pc := 36) o d_X_at_36 0 rfl ?_
      refine gw_callS (pc := 38) (As := [.int r15]) (st := [.int x2, .int r15, .int x4, .ref (τ.2.2 54)]) o (ct_X_variableOf o.hD h) mi_X_variableOf q_186 q_187 (xRo_of (by omega) (by decide)) rfl rfl (Nat.le_of_ble_eq_true rfl) d_X_at_38 (kk_p_i rfl (fun r38 h => ?_))
      refine gw_callS (pc := 41) (As := [.int x2, .int r38]) (st := [.int r15, .int x4, .ref (τ.2.2 54)]) o (ct_X_bit o.hD h) mi_X_bit q_290 q_291 (xRo_of (by omega) (by decide)) rfl rfl (Nat.le_of_ble_eq_true rfl) d_X_at_41 (kk_p_i rfl (fun r41 h => ?_))
      refine gw_goto (pc := 44) (tgt := 56) o d_X_at_44 (by decide) ?_
      exact gw_sub (lv' := [(0, .ref (τ.2.2 30)), (2, .int x2), (3, .int x3)]) [1, 2, 3] rfl (wk_X_at_b56 o hk3 h)
def X_at_L3 (Z : Int32 → Prop) (E : xF) (N : xF) (x2 : Int32) (x3 : Int32) (x4 : Int32) : Prop := LOOP1 (fun k3 x4 => X_at_b3 Z k3 E N x2 x3 x4) x4
theorem wk_X_at_L3 {κ : Cx} {τ : xT} {Z : Int32 → Prop} {E : xF} {N : xF} {x2 : Int32} {x3 : Int32} {x4 : Int32} (o : OKc κ (wdX τ) 6 b_X_at "StateExplorer" (some .boolean) (xR 1)) (h : X_at_L3 Z E N x2 x3 x4) : GW κ (wdX τ) 6 (0, 0) (xMQ κ (wdX τ) (xR 1) (zp_i (E, N) Z)) (E, N) 3 [(0, .ref (τ.2.2 30)), (2, .int x2), (3, .int x3), (4, .int x4)] [] := by
  unfold X_at_L3 at h
  exact LOOP1.use (G := fun x4 => GW κ (wdX τ) 6 (0, 0) (xMQ κ (wdX τ) (xR 1) (zp_i (E, N) Z)) (E, N) 3 [(0, .ref (τ.2.2 30)), (2, .int x2), (3, .int x3), (4, .int x4)] []) (fun k3 x4 hk3 h => wk_X_at_b3 o hk3 h) h
def X_at_b0 (Z : Int32 → Prop) (E : xF) (N : xF) (x1 : Int32) (x2 : Int32) (x3 : Int32) : Prop := X_at_L3 Z E N x2 x3 x1
set_option maxRecDepth 10000 in
theorem wk_X_at_b0 {κ : Cx} {τ : xT} {Z : Int32 → Prop} {E : xF} {N : xF} {x1 : Int32} {x2 : Int32} {x3 : Int32} (o : OKc κ (wdX τ) 6 b_X_at "StateExplorer" (some .boolean) (xR 1)) (h : X_at_b0 Z E N x1 x2 x3) : GW κ (wdX τ) 6 (0, 0) (xMQ κ (wdX τ) (xR 1) (zp_i (E, N) Z)) (E, N) 0 [(0, .ref (τ.2.2 30)), (1, .int x1), (2, .int x2), (3, .int x3)] [] := by
  unfold X_at_b0 at h
  refine gw_iload_n (pc := 0) o d_X_at_0 rfl 1 rfl ?_
  refine gw_istore (pc := 1) (lv' := [(4, .int x1), (0, .ref (τ.2.2 30)), (1, .int x1), (2, .int x2), (3, .int x3)]) o d_X_at_1 (by decide) rfl ?_
  exact gw_sub (lv' := [(0, .ref (τ.2.2 30)), (2, .int x2), (3, .int x3), (4, .int x1)]) [1, 3, 4, 0] rfl (wk_X_at_L3 o h)
def w_X_at  (E : xF) (N : xF) (x1 : Int32) (x2 : Int32) (x3 : Int32) (Z : Int32 → Prop) : Prop := X_at_b0  Z E N x1 x2 x3
theorem ct_X_at {l : Launch} {τ : xT} {E : xF} {N : xF} {x1 : Int32} {x2 : Int32} {x3 : Int32} {Z : Int32 → Prop} (hD : xD (wdX τ)) (h : w_X_at  E N x1 x2 x3 Z) : CT l (wdX τ) y_X_at (.code y_X_at b_X_at 6 (some .boolean)) (xR 1) [.ref (τ.2.2 30), .int x1, .int x2, .int x3] (E, N) (zp_i (E, N) Z) := by
  subst_vars
  exact CT.of (by decide) (Nat.le_of_ble_eq_true rfl) hD (fun κ hl ha o => gw_sub (lv' := [(0, .ref (τ.2.2 30)), (1, .int x1), (2, .int x2), (3, .int x3)]) [0, 1, 2, 3] rfl (wk_X_at_b0 o h))
def X_states_b0 (Z : Int32 → Prop) (E : xF) (N : xF) (x1 : Int32) : Prop := w_X_points 16 N x1 (0 : Int32) (fun r6 => Z (r6 / (16 : Int32)))
set_option maxRecDepth 10000 in
theorem wk_X_states_b0 {κ : Cx} {τ : xT} {Z : Int32 → Prop} {E : xF} {N : xF} {x1 : Int32} (o : OKc κ (wdX τ) 2 b_X_states "StateExplorer" (some .int) (xR 18)) (h : X_states_b0 Z E N x1) : GW κ (wdX τ) 2 (0, 0) (xMQ κ (wdX τ) (xR 18) (zp_i (E, N) Z)) (E, N) 0 [(0, .ref (τ.2.2 30)), (1, .int x1)] [] := by
  unfold X_states_b0 at h
  refine gw_aload_n (pc := 0) o d_X_states_0 rfl 0 rfl ?_
  refine gE_get_nodes (pc := 1) o q_80 d_X_states_1 ?_
  refine gw_iload_n (pc := 4) o d_X_states_4 rfl 1 rfl ?_
  refine gw_iconst (pc := 5) (v := (0 : Int32)) o d_X_states_5 (by decide) ?_
  refine gw_callS (pc := 6) (As := [.ref (τ.2.2 54), .int x1, .int (0 : Int32)]) (st := []) o (CT.lfP_i (ct_X_points o.hD.N h) o.hD) mi_X_points q_321 q_322 (xRo_of (by omega) (by decide)) rfl rfl (Nat.le_of_ble_eq_true rfl) d_X_states_6 (kk_p_i rfl (fun r6 h => ?_))
  refine gw_bipush (pc := 9) (v := (16 : Int32)) o d_X_states_9 (by decide) ?_
  refine gw_idiv (pc := 11) o d_X_states_11 (by decide) ?_
  exact gw_iret (pc := 12) o ⟨Nat.le_refl _, Nat.le_refl _⟩ (zp_i.mk h) d_X_states_12
def w_X_states  (E : xF) (N : xF) (x1 : Int32) (Z : Int32 → Prop) : Prop := X_states_b0  Z E N x1
theorem ct_X_states {l : Launch} {τ : xT} {E : xF} {N : xF} {x1 : Int32} {Z : Int32 → Prop} (hD : xD (wdX τ)) (h : w_X_states  E N x1 Z) : CT l (wdX τ) y_X_states (.code y_X_states b_X_states 2 (some .int)) (xR 18) [.ref (τ.2.2 30), .int x1] (E, N) (zp_i (E, N) Z) := by
  subst_vars
  exact CT.of (by decide) (Nat.le_of_ble_eq_true rfl) hD (fun κ hl ha o => gw_sub (lv' := [(0, .ref (τ.2.2 30)), (1, .int x1)]) [0, 1] rfl (wk_X_states_b0 o h))
