/-! walks, printed by mk.py -/
def X_least_b101 (Z : Int32 → Prop) (k4 : Int32 → Int32 → Prop) (E : xF) (N : xF) (x2 : Int32) (s0 : Int32) : Prop := k4 x2 s0
set_option maxRecDepth 10000 in
theorem wk_X_least_b101 {κ : Cx} {τ : xT} {Z : Int32 → Prop} {k4 : Int32 → Int32 → Prop} {E : xF} {N : xF} {x2 : Int32} {s0 : Int32} (o : OKc κ (wdX τ) 6 b_X_least "StateExplorer" (some .int) (xR 1)) (hk4 : ∀ (x2 : Int32) (x3 : Int32), k4 x2 x3 → GW κ (wdX τ) 6 (0, 0) (xMQ κ (wdX τ) (xR 1) (zp_i (E, N) Z)) (E, N) 4 [(0, .ref (τ.2.2 30)), (2, .int x2), (3, .int x3)] []) (h : X_least_b101 Z k4 E N x2 s0) : GW κ (wdX τ) 6 (0, 0) (xMQ κ (wdX τ) (xR 1) (zp_i (E, N) Z)) (E, N) 101 [(0, .ref (τ.2.2 30)), (2, .int x2)] [.int s0] := by
  unfold X_least_b101 at h
  refine gw_istore_n (pc := 101) (lv' := [(3, .int s0), (0, .ref (τ.2.2 30)), (2, .int x2)]) o d_X_least_101 rfl (by decide) rfl ?_
  refine gw_goto (pc := 102) (tgt := 4) o d_X_least_102 (by decide) ?_
  exact gw_sub (lv' := [(0, .ref (τ.2.2 30)), (2, .int x2), (3, .int s0)]) [1, 2, 0] rfl (hk4 _ _ h)
def X_least_b73 (Z : Int32 → Prop) (k4 : Int32 → Int32 → Prop) (E : xF) (N : xF) (x3 : Int32) (x4 : Int32) (s0 : Int32) (s1 : Int32) : Prop := ∀ x2_74 : Int32, x2_74 = s0 ||| s1 → (((x4 = 0) → (vp_in x3 262144 ∧ (X_least_b101 Z k4 E N x2_74 (N 1 x3.toNatClampNeg)))) ∧ (¬ (x4 = 0) → (vp_in x3 262144 ∧ (X_least_b101 Z k4 E N x2_74 (N 2 x3.toNatClampNeg)))))
set_option maxRecDepth 10000 in
theorem wk_X_least_b73 {κ : Cx} {τ : xT} {Z : Int32 → Prop} {k4 : Int32 → Int32 → Prop} {E : xF} {N : xF} {x3 : Int32} {x4 : Int32} {s0 : Int32} {s1 : Int32} (o : OKc κ (wdX τ) 6 b_X_least "StateExplorer" (some .int) (xR 1)) (hk4 : ∀ (x2 : Int32) (x3 : Int32), k4 x2 x3 → GW κ (wdX τ) 6 (0, 0) (xMQ κ (wdX τ) (xR 1) (zp_i (E, N) Z)) (E, N) 4 [(0, .ref (τ.2.2 30)), (2, .int x2), (3, .int x3)] []) (h : X_least_b73 Z k4 E N x3 x4 s0 s1) : GW κ (wdX τ) 6 (0, 0) (xMQ κ (wdX τ) (xR 1) (zp_i (E, N) Z)) (E, N) 73 [(0, .ref (τ.2.2 30)), (3, .int x3), (4, .int x4)] [.int s1, .int s0] := by
  unfold X_least_b73 at h
  refine gw_ior (pc := 73) o d_X_least_73 ?_
  refine gw_topi (fun x2_74 ex2_74 => ?_)
  have h := h x2_74 ex2_74
  refine gw_istore_n (pc := 74) (lv' := [(2, .int x2_74), (0, .ref (τ.2.2 30)), (3, .int x3), (4, .int x4)]) o d_X_least_74 rfl (by decide) rfl ?_
  refine gw_iload (pc := 75) o d_X_least_75 3 rfl ?_
  refine gw_if_eq (pc := 77) (tgt := 92) o d_X_least_77 (by decide) (fun hc => ?_) (fun hc => ?_)
  · have h := h.1 hc
    refine gw_aload_n (pc := 92) o d_X_least_92 rfl 1 rfl ?_
    refine gE_get_nodes (pc := 93) o q_80 d_X_least_93 ?_
    refine gX_getN_lows (pc := 96) o d_X_least_96 ?_
    refine gw_iload_n (pc := 99) o d_X_least_99 rfl 2 rfl ?_
    have hi := h.1
    have h := h.2
    refine gX_ald_lows (pc := 100) o hi d_X_least_100 ?_
    exact gw_sub (lv' := [(0, .ref (τ.2.2 30)), (2, .int x2_74)]) [1, 0] rfl (wk_X_least_b101 o hk4 h)
  · have h := h.2 hc
    refine gw_aload_n (pc := 80) o d_X_least_80 rfl 1 rfl ?_
    refine gE_get_nodes (pc := 81) o q_80 d_X_least_81 ?_
    refine gX_getN_highs (pc := 84) o d_X_least_84 ?_
    refine gw_iload_n (pc := 87) o d_X_least_87 rfl 2 rfl ?_
    have hi := h.1
    have h := h.2
    refine gX_ald_highs (pc := 88) o hi d_X_least_88 ?_
    refine gw_goto (pc := 89) (tgt := 101) o d_X_least_89 (by decide) ?_
    exact gw_sub (lv' := [(0, .ref (τ.2.2 30)), (2, .int x2_74)]) [1, 0] rfl (wk_X_least_b101 o hk4 h)
def X_least_b26 (Z : Int32 → Prop) (k4 : Int32 → Int32 → Prop) (E : xF) (N : xF) (x2 : Int32) (x3 : Int32) (s0 : Int32) : Prop := w_N_level N x3 (fun r33 => ((s0 = 0) → (X_least_b73 Z k4 E N x3 s0 x2 (0 : Int32))) ∧ (¬ (s0 = 0) → ((((8 : Int32) ≤ r33) → (X_least_b73 Z k4 E N x3 s0 x2 ((1 : Int32) <<< (((11 : Int32) - r33) &&& 31)))) ∧ (¬ ((8 : Int32) ≤ r33) → (w_X_variableOf r33 (fun r55 => X_least_b73 Z k4 E N x3 s0 x2 ((16 : Int32) <<< (r55 &&& 31))))))))
set_option maxRecDepth 10000 in
theorem wk_X_least_b26 {κ : Cx} {τ : xT} {Z : Int32 → Prop} {k4 : Int32 → Int32 → Prop} {E : xF} {N : xF} {x2 : Int32} {x3 : Int32} {s0 : Int32} (o : OKc κ (wdX τ) 6 b_X_least "StateExplorer" (some .int) (xR 1)) (hk4 : ∀ (x2 : Int32) (x3 : Int32), k4 x2 x3 → GW κ (wdX τ) 6 (0, 0) (xMQ κ (wdX τ) (xR 1) (zp_i (E, N) Z)) (E, N) 4 [(0, .ref (τ.2.2 30)), (2, .int x2), (3, .int x3)] []) (h : X_least_b26 Z k4 E N x2 x3 s0) : GW κ (wdX τ) 6 (0, 0) (xMQ κ (wdX τ) (xR 1) (zp_i (E, N) Z)) (E, N) 26 [(0, .ref (τ.2.2 30)), (2, .int x2), (3, .int x3)] [.int s0] := by
  unfold X_least_b26 at h
  refine gw_istore (pc := 26) (lv' := [(4, .int s0), (0, .ref (τ.2.2 30)), (2, .int x2), (3, .int x3)]) o d_X_least_26 (by decide) rfl ?_
  refine gw_aload_n (pc := 28) o d_X_least_28 rfl 1 rfl ?_
  refine gE_get_nodes (pc := 29) o q_80 d_X_least_29 ?_
  refine gw_iload_n (pc := 32) o d_X_least_32 rfl 3 rfl ?_
  refine gw_callV (pc := 33) (b := τ.2.2 54) (As := [.int x3]) (st := []) o (CT.lfP_i (ct_N_level o.hD.N h) o.hD) mi_N_level q_254 q_255 q_256 19 rfl rfl (xRo_of (by omega) (by decide)) rfl rfl (Nat.le_of_ble_eq_true rfl) d_X_least_33 (kk_p_i rfl (fun r33 h => ?_))
  refine gw_istore (pc := 36) (lv' := [(5, .int r33), (4, .int s0), (0, .ref (τ.2.2 30)), (2, .int x2), (3, .int x3)]) o d_X_least_36 (by decide) rfl ?_
  refine gw_iload_n (pc := 38) o d_X_least_38 rfl 3 rfl ?_
  refine gw_iload (pc := 39) o d_X_least_39 1 rfl ?_
  refine gw_if_eq (pc := 41) (tgt := 72) o d_X_least_41 (by decide) (fun hc => ?_) (fun hc => ?_)
  · have h := h.1 hc
    refine gw_iconst (pc := 72) (v := (0 : Int32)) o d_X_least_72 (by decide) ?_
    exact gw_sub (lv' := [(0, .ref (τ.2.2 30)), (3, .int x3), (4, .int s0)]) [2, 4, 1] rfl (wk_X_least_b73 o hk4 h)
  · have h := h.2 hc
    refine gw_iload (pc := 44) o d_X_least_44 0 rfl ?_
    refine gw_bipush (pc := 46) (v := (8 : Int32)) o d_X_least_46 (by decide) ?_
    refine gw_icmp_ge (pc := 48) (tgt := 62) o d_X_least_48 (by decide) (fun hc => ?_) (fun hc => ?_)
    · have h := h.1 hc
      refine gw_iconst (pc := 62) (v := (1 : Int32)) o d_X_least_62 (by decide) ?_
      refine gw_bipush (pc := 63) (v := (11 : Int32)) o d_X_least_63 (by decide) ?_
      refine gw_iload (pc := 65) o d_X_least_65 0 rfl ?_
      refine gw_isub (pc := 67) o d_X_least_67 ?_
      refine gw_ishl (pc := 68) o d_X_least_68 ?_
      refine gw_goto (pc := 69) (tgt := 73) o d_X_least_69 (by decide) ?_
      exact gw_sub (lv' := [(0, .ref (τ.2.2 30)), (3, .int x3), (4, .int s0)]) [2, 4, 1] rfl (wk_X_least_b73 o hk4 h)
    · have h := h.2 hc
      refine gw_bipush (pc := 51) (v := (16 : Int32)) o d_X_least_51 (by decide) ?_
      refine gw_iload (pc := 53) o d_X_least_53 0 rfl ?_
      refine gw_callS (pc := 55) (As := [.int r33]) (st := [.int (16 : Int32), .int x2]) o (ct_X_variableOf o.hD h) mi_X_variableOf q_186 q_187 (xRo_of (by omega) (by decide)) rfl rfl (Nat.le_of_ble_eq_true rfl) d_X_least_55 (kk_p_i rfl (fun r55 h => ?_))
      refine gw_ishl (pc := 58) o d_X_least_58 ?_
      refine gw_goto (pc := 59) (tgt := 73) o d_X_least_59 (by decide) ?_
      exact gw_sub (lv' := [(0, .ref (τ.2.2 30)), (3, .int x3), (4, .int s0)]) [2, 4, 1] rfl (wk_X_least_b73 o hk4 h)
def X_least_b4 (Z : Int32 → Prop) (k4 : Int32 → Int32 → Prop) (E : xF) (N : xF) (x2 : Int32) (x3 : Int32) : Prop := ((x3 ≤ (1 : Int32)) → (Z x2)) ∧ (¬ (x3 ≤ (1 : Int32)) → (vp_in x3 262144 ∧ ((((N 1 x3.toNatClampNeg) = 0) → (X_least_b26 Z k4 E N x2 x3 (1 : Int32))) ∧ (¬ ((N 1 x3.toNatClampNeg) = 0) → (X_least_b26 Z k4 E N x2 x3 (0 : Int32))))))
set_option maxRecDepth 10000 in
theorem wk_X_least_b4 {κ : Cx} {τ : xT} {Z : Int32 → Prop} {k4 : Int32 → Int32 → Prop} {E : xF} {N : xF} {x2 : Int32} {x3 : Int32} (o : OKc κ (wdX τ) 6 b_X_least "StateExplorer" (some .int) (xR 1)) (hk4 : ∀ (x2 : Int32) (x3 : Int32), k4 x2 x3 → GW κ (wdX τ) 6 (0, 0) (xMQ κ (wdX τ) (xR 1) (zp_i (E, N) Z)) (E, N) 4 [(0, .ref (τ.2.2 30)), (2, .int x2), (3, .int x3)] []) (h : X_least_b4 Z k4 E N x2 x3) : GW κ (wdX τ) 6 (0, 0) (xMQ κ (wdX τ) (xR 1) (zp_i (E, N) Z)) (E, N) 4 [(0, .ref (τ.2.2 30)), (2, .int x2), (3, .int x3)] [] := by
  unfold X_least_b4 at h
  refine gw_iload_n (pc := 4) o d_X_least_4 rfl 2 rfl ?_
  refine gw_iconst (pc := 5) (v := (1 : Int32)) o d_X_least_5 (by decide) ?_
  refine gw_icmp_le (pc := 6) (tgt := 105) o d_X_least_6 (by decide) (fun hc => ?_) (fun hc => ?_)
  · have h := h.1 hc
    refine gw_iload_n (pc := 105) o d_X_least_105 rfl 1 rfl ?_
    exact gw_iret (pc := 106) o ⟨Nat.le_refl _, Nat.le_refl _⟩ (zp_i.mk h) d_X_least_106
  · have h := h.2 hc
    refine gw_aload_n (pc := 9) o d_X_least_9 rfl 0 rfl ?_
    refine gE_get_nodes (pc := 10) o q_80 d_X_least_10 ?_
    refine gX_getN_lows (pc := 13) o d_X_least_13 ?_
    refine gw_iload_n (pc := 16) o d_X_least_16 rfl 2 rfl ?_
    have hi := h.1
    have h := h.2
    refine gX_ald_lows (pc := 17) o hi d_X_least_17 ?_
    refine gw_if_ne (pc := 18) (tgt := 25) o d_X_least_18 (by decide) (fun hc => ?_) (fun hc => ?_)
    · have h := h.2 hc
      refine gw_iconst (pc := 25) (v := (0 : Int32)) o d_X_least_25 (by decide) ?_
      exact gw_sub (lv' := [(0, .ref (τ.2.2 30)), (2, .int x2), (3, .int x3)]) [0, 1, 2] rfl (wk_X_least_b26 o hk4 h)
    · have h := h.1 hc
      refine gw_iconst (pc := 21) (v := (1 : Int32)) o d_X_least_21 (by decide) ?_
      refine gw_goto (pc := 22) (tgt := 26) o d_X_least_22 (by decide) ?_
      exact gw_sub (lv' := [(0, .ref (τ.2.2 30)), (2, .int x2), (3, .int x3)]) [0, 1, 2] rfl (wk_X_least_b26 o hk4 h)
def X_least_L4 (Z : Int32 → Prop) (E : xF) (N : xF) (x2 : Int32) (x3 : Int32) : Prop := LOOP2 (fun k4 x2 x3 => X_least_b4 Z k4 E N x2 x3) x2 x3
theorem wk_X_least_L4 {κ : Cx} {τ : xT} {Z : Int32 → Prop} {E : xF} {N : xF} {x2 : Int32} {x3 : Int32} (o : OKc κ (wdX τ) 6 b_X_least "StateExplorer" (some .int) (xR 1)) (h : X_least_L4 Z E N x2 x3) : GW κ (wdX τ) 6 (0, 0) (xMQ κ (wdX τ) (xR 1) (zp_i (E, N) Z)) (E, N) 4 [(0, .ref (τ.2.2 30)), (2, .int x2), (3, .int x3)] [] := by
  unfold X_least_L4 at h
  exact LOOP2.use (G := fun x2 x3 => GW κ (wdX τ) 6 (0, 0) (xMQ κ (wdX τ) (xR 1) (zp_i (E, N) Z)) (E, N) 4 [(0, .ref (τ.2.2 30)), (2, .int x2), (3, .int x3)] []) (fun k4 x2 x3 hk4 h => wk_X_least_b4 o hk4 h) h
def X_least_b0 (Z : Int32 → Prop) (E : xF) (N : xF) (x1 : Int32) : Prop := X_least_L4 Z E N (0 : Int32) x1
set_option maxRecDepth 10000 in
theorem wk_X_least_b0 {κ : Cx} {τ : xT} {Z : Int32 → Prop} {E : xF} {N : xF} {x1 : Int32} (o : OKc κ (wdX τ) 6 b_X_least "StateExplorer" (some .int) (xR 1)) (h : X_least_b0 Z E N x1) : GW κ (wdX τ) 6 (0, 0) (xMQ κ (wdX τ) (xR 1) (zp_i (E, N) Z)) (E, N) 0 [(0, .ref (τ.2.2 30)), (1, .int x1)] [] := by
  unfold X_least_b0 at h
  refine gw_iconst (pc := 0) (v := (0 : Int32)) o d_X_least_0 (by decide) ?_
  refine gw_istore_n (pc := 1) (lv' := [(2, .int (0 : Int32)), (0, .ref (τ.2.2 30)), (1, .int x1)]) o d_X_least_1 rfl (by decide) rfl ?_
  refine gw_iload_n (pc := 2) o d_X_least_2 rfl 2 rfl ?_
  refine gw_istore_n (pc := 3) (lv' := [(3, .int x1), (2, .int (0 : Int32)), (0, .ref (τ.2.2 30)), (1, .int x1)]) o d_X_least_3 rfl (by decide) rfl ?_
  exact gw_sub (lv' := [(0, .ref (τ.2.2 30)), (2, .int (0 : Int32)), (3, .int x1)]) [2, 1, 0] rfl (wk_X_least_L4 o h)
def w_X_least  (E : xF) (N : xF) (x1 : Int32) (Z : Int32 → Prop) : Prop := X_least_b0  Z E N x1
theorem ct_X_least {l : Launch} {τ : xT} {E : xF} {N : xF} {x1 : Int32} {Z : Int32 → Prop} (hD : xD (wdX τ)) (h : w_X_least  E N x1 Z) : CT l (wdX τ) y_X_least (.code y_X_least b_X_least 6 (some .int)) (xR 1) [.ref (τ.2.2 30), .int x1] (E, N) (zp_i (E, N) Z) := by
  subst_vars
  exact CT.of (by decide) (Nat.le_of_ble_eq_true rfl) hD (fun κ hl ha o => gw_sub (lv' := [(0, .ref (τ.2.2 30)), (1, .int x1)]) [0, 1] rfl (wk_X_least_b0 o h))
def X_spread1_b162 (Z : Int32 → xF → xF → Prop) (k32 : Int32 → xF → xF → Prop) (E : xF) (N : xF) (x1 : Int32) (x2 : Int32) (x3 : Int32) : Prop := ∀ x3_162 : Int32, x3_162 = x3 + (1 : Int32) → (k32 x3_162 E N)
set_option maxRecDepth 10000 in
theorem wk_X_spread1_b162 {κ : Cx} {τ : xT} {Z : Int32 → xF → xF → Prop} {k32 : Int32 → xF → xF → Prop} {E : xF} {N : xF} {x1 : Int32} {x2 : Int32} {x3 : Int32} (o : OKc κ (wdX τ) 5 b_X_spread1 "StateExplorer" (some .boolean) (xR 21)) (hk32 : ∀ (x3 : Int32) (E : xF) (N : xF), k32 x3 E N → GW κ (wdX τ) 5 (0, 0) (xMQ κ (wdX τ) (xR 21) (z12_i Z)) (E, N) 32 [(0, .ref (τ.2.2 30)), (1, .int x1), (2, .int x2), (3, .int x3)] []) (h : X_spread1_b162 Z k32 E N x1 x2 x3) : GW κ (wdX τ) 5 (0, 0) (xMQ κ (wdX τ) (xR 21) (z12_i Z)) (E, N) 162 [(0, .ref (τ.2.2 30)), (1, .int x1), (2, .int x2), (3, .int x3)] [] := by
  unfold X_spread1_b162 at h
  refine gw_iincN (pc := 162) (c := (1 : Int32)) (lw := fun x3_162 => [(3, .int x3_162), (0, .ref (τ.2.2 30)), (1, .int x1), (2, .int x2)]) o d_X_spread1_162 (by decide) 3 rfl (by decide) (fun _ => rfl) (fun x3_162 ex3_162 => ?_)
  have h := h x3_162 ex3_162
  refine gw_goto (pc := 165) (tgt := 32) o d_X_spread1_165 (by decide) ?_
  exact gw_sub (lv' := [(0, .ref (τ.2.2 30)), (1, .int x1), (2, .int x2), (3, .int x3_162)]) [1, 2, 3, 0] rfl (hk32 _ _ _ h)
def X_spread1_b158 (Z : Int32 → xF → xF → Prop) (k32 : Int32 → xF → xF → Prop) (E : xF) (N : xF) (x1 : Int32) (x2 : Int32) (x3 : Int32) (s3 : Int32) (s4 : Int32) : Prop := w_X_or E N s3 s4 (fun r158 E_158 N_158 => ∀ E_161 : xF, E_161 = xs E_158 24 (1 : Int32).toNatClampNeg r158 → (X_spread1_b162 Z k32 E_161 N_158 x1 x2 x3))
set_option maxRecDepth 10000 in
theorem wk_X_spread1_b158 {κ : Cx} {τ : xT} {Z : Int32 → xF → xF → Prop} {k32 : Int32 → xF → xF → Prop} {E : xF} {N : xF} {x1 : Int32} {x2 : Int32} {x3 : Int32} {s3 : Int32} {s4 : Int32} (o : OKc κ (wdX τ) 5 b_X_spread1 "StateExplorer" (some .boolean) (xR 21)) (hk32 : ∀ (x3 : Int32) (E : xF) (N : xF), k32 x3 E N → GW κ (wdX τ) 5 (0, 0) (xMQ κ (wdX τ) (xR 21) (z12_i Z)) (E, N) 32 [(0, .ref (τ.2.2 30)), (1, .int x1), (2, .int x2), (3, .int x3)] []) (h : X_spread1_b158 Z k32 E N x1 x2 x3 s3 s4) : GW κ (wdX τ) 5 (0, 0) (xMQ κ (wdX τ) (xR 21) (z12_i Z)) (E, N) 158 [(0, .ref (τ.2.2 30)), (1, .int x1), (2, .int x2), (3, .int x3)] [.int s4, .int s3, .ref (τ.2.2 30), .int (1 : Int32), .ref (τ.2.2 24)] := by
  unfold X_spread1_b158 at h
  refine gw_callV (pc := 158) (b := τ.2.2 30) (As := [.int s3, .int s4]) (st := [.int (1 : Int32), .ref (τ.2.2 24)]) o (ct_X_or o.hD h) mi_X_or q_277 q_279 qs_11 0 rfl rfl (xRo_of (by omega) (by decide)) rfl rfl (Nat.le_of_ble_eq_true rfl) d_X_spread1_158 (kk_12_i rfl (fun r158 E_158 N_158 h => ?_))
  refine gE_ast_spare (pc := 161) o (by unfold vp_in; decide) d_X_spread1_161 (fun E_161 eE_161 => ?_)
  have h := h E_161 eE_161
  exact gw_sub (lv' := [(0, .ref (τ.2.2 30)), (1, .int x1), (2, .int x2), (3, .int x3)]) [0, 1, 2, 3] rfl (wk_X_spread1_b162 o hk32 h)
def X_spread1_b112 (Z : Int32 → xF → xF → Prop) (k32 : Int32 → xF → xF → Prop) (E : xF) (N : xF) (x1 : Int32) (x2 : Int32) (x3 : Int32) (x4 : Int32) (s3 : Int32) (s4 : Int32) : Prop := w_X_and E N s3 s4 (fun r112 E_112 N_112 => ∀ E_115 : xF, E_115 = xs E_112 24 (0 : Int32).toNatClampNeg r112 → (((x4 = 0) → (vp_in x3 240 ∧ (vp_in (E_115 11 x3.toNatClampNeg) 60 ∧ (X_spread1_b158 Z k32 E_115 N_112 x1 x2 x3 (E_115 24 (1 : Int32).toNatClampNeg) (E_115 14 (E_115 11 x3.toNatClampNeg).toNatClampNeg))))) ∧ (¬ (x4 = 0) → (vp_in x3 240 ∧ (vp_in (E_115 11 x3.toNatClampNeg) 60 ∧ (X_spread1_b158 Z k32 E_115 N_112 x1 x2 x3 (E_115 24 (1 : Int32).toNatClampNeg) (E_115 15 (E_115 11 x3.toNatClampNeg).toNatClampNeg)))))))
set_option maxRecDepth 10000 in
theorem wk_X_spread1_b112 {κ : Cx} {τ : xT} {Z : Int32 → xF → xF → Prop} {k32 : Int32 → xF → xF → Prop} {E : xF} {N : xF} {x1 : Int32} {x2 : Int32} {x3 : Int32} {x4 : Int32} {s3 : Int32} {s4 : Int32} (o : OKc κ (wdX τ) 5 b_X_spread1 "StateExplorer" (some .boolean) (xR 21)) (hk32 : ∀ (x3 : Int32) (E : xF) (N : xF), k32 x3 E N → GW κ (wdX τ) 5 (0, 0) (xMQ κ (wdX τ) (xR 21) (z12_i Z)) (E, N) 32 [(0, .ref (τ.2.2 30)), (1, .int x1), (2, .int x2), (3, .int x3)] []) (h : X_spread1_b112 Z k32 E N x1 x2 x3 x4 s3 s4) : GW κ (wdX τ) 5 (0, 0) (xMQ κ (wdX τ) (xR 21) (z12_i Z)) (E, N) 112 [(0, .ref (τ.2.2 30)), (1, .int x1), (2, .int x2), (3, .int x3), (4, .int x4)] [.int s4, .int s3, .ref (τ.2.2 30), .int (0 : Int32), .ref (τ.2.2 24)] := by
  unfold X_spread1_b112 at h
  refine gw_callV (pc := 112) (b := τ.2.2 30) (As := [.int s3, .int s4]) (st := [.int (0 : Int32), .ref (τ.2.2 24)]) o (ct_X_and o.hD h) mi_X_and q_273 q_275 qs_10 0 rfl rfl (xRo_of (by omega) (by decide)) rfl rfl (Nat.le_of_ble_eq_true rfl) d_X_spread1_112 (kk_12_i rfl (fun r112 E_112 N_112 h => ?_))
  refine gE_ast_spare (pc := 115) o (by unfold vp_in; decide) d_X_spread1_115 (fun E_115 eE_115 => ?_)
  have h := h E_115 eE_115
  refine gw_aload_n (pc := 116) o d_X_spread1_116 rfl 0 rfl ?_
  refine gE_get_spare (pc := 117) o q_104 d_X_spread1_117 ?_
  refine gw_iconst (pc := 120) (v := (1 : Int32)) o d_X_spread1_120 (by decide) ?_
  refine gw_aload_n (pc := 121) o d_X_spread1_121 rfl 0 rfl ?_
  refine gw_aload_n (pc := 122) o d_X_spread1_122 rfl 0 rfl ?_
  refine gE_get_spare (pc := 123) o q_104 d_X_spread1_123 ?_
  refine gw_iconst (pc := 126) (v := (1 : Int32)) o d_X_spread1_126 (by decide) ?_
  refine gE_ald_spare (pc := 127) o (by unfold vp_in; decide) d_X_spread1_127 ?_
  refine gw_iload (pc := 128) o d_X_spread1_128 4 rfl ?_
  refine gw_if_eq (pc := 130) (tgt := 147) o d_X_spread1_130 (by decide) (fun hc => ?_) (fun hc => ?_)
  · have h := h.1 hc
    refine gw_aload_n (pc := 147) o d_X_spread1_147 rfl 0 rfl ?_
    refine gE_get_ones (pc := 148) o q_94 d_X_spread1_148 ?_
    refine gw_aload_n (pc := 151) o d_X_spread1_151 rfl 0 rfl ?_
    refine gE_get_from (pc := 152) o q_91 d_X_spread1_152 ?_
    refine gw_iload_n (pc := 155) o d_X_spread1_155 rfl 3 rfl ?_
    have hi := h.1
    have h := h.2
    refine gE_ald_from (pc := 156) o hi d_X_spread1_156 ?_
    have hi := h.1
    have h := h.2
    refine gE_ald_ones (pc := 157) o hi d_X_spread1_157 ?_
    exact gw_sub (lv' := [(0, .ref (τ.2.2 30)), (1, .int x1), (2, .int x2), (3, .int x3)]) [0, 1, 2, 3] rfl (wk_X_spread1_b158 o hk32 h)
  · have h := h.2 hc
    refine gw_aload_n (pc := 133) o d_X_spread1_133 rfl 0 rfl ?_
    refine gE_get_zeros (pc := 134) o q_95 d_X_spread1_134 ?_
    refine gw_aload_n (pc := 137) o d_X_spread1_137 rfl 0 rfl ?_
    refine gE_get_from (pc := 138) o q_91 d_X_spread1_138 ?_
    refine gw_iload_n (pc := 141) o d_X_spread1_141 rfl 3 rfl ?_
    have hi := h.1
    have h := h.2
    refine gE_ald_from (pc := 142) o hi d_X_spread1_142 ?_
    have hi := h.1
    have h := h.2
    refine gE_ald_zeros (pc := 143) o hi d_X_spread1_143 ?_
    refine gw_goto (pc := 144) (tgt := 158) o d_X_spread1_144 (by decide) ?_
    exact gw_sub (lv' := [(0, .ref (τ.2.2 30)), (1, .int x1), (2, .int x2), (3, .int x3)]) [0, 1, 2, 3] rfl (wk_X_spread1_b158 o hk32 h)
def X_spread1_b68 (Z : Int32 → xF → xF → Prop) (k32 : Int32 → xF → xF → Prop) (E : xF) (N : xF) (x1 : Int32) (x2 : Int32) (x3 : Int32) (s0 : Int32) : Prop := ((s0 = 0) → (vp_in x3 240 ∧ (vp_in (E 11 x3.toNatClampNeg) 60 ∧ (X_spread1_b112 Z k32 E N x1 x2 x3 s0 (E 24 (0 : Int32).toNatClampNeg) (E 15 (E 11 x3.toNatClampNeg).toNatClampNeg))))) ∧ (¬ (s0 = 0) → (vp_in x3 240 ∧ (vp_in (E 11 x3.toNatClampNeg) 60 ∧ (X_spread1_b112 Z k32 E N x1 x2 x3 s0 (E 24 (0 : Int32).toNatClampNeg) (E 14 (E 11 x3.toNatClampNeg).toNatClampNeg)))))
set_option maxRecDepth 10000 in
theorem wk_X_spread1_b68 {κ : Cx} {τ : xT} {Z : Int32 → xF → xF → Prop} {k32 : Int32 → xF → xF → Prop} {E : xF} {N : xF} {x1 : Int32} {x2 : Int32} {x3 : Int32} {s0 : Int32} (o : OKc κ (wdX τ) 5 b_X_spread1 "StateExplorer" (some .boolean) (xR 21)) (hk32 : ∀ (x3 : Int32) (E : xF) (N : xF), k32 x3 E N → GW κ (wdX τ) 5 (0, 0) (xMQ κ (wdX τ) (xR 21) (z12_i Z)) (E, N) 32 [(0, .ref (τ.2.2 30)), (1, .int x1), (2, .int x2), (3, .int x3)] []) (h : X_spread1_b68 Z k32 E N x1 x2 x3 s0) : GW κ (wdX τ) 5 (0, 0) (xMQ κ (wdX τ) (xR 21) (z12_i Z)) (E, N) 68 [(0, .ref (τ.2.2 30)), (1, .int x1), (2, .int x2), (3, .int x3)] [.int s0] := by
  unfold X_spread1_b68 at h
  refine gw_istore (pc := 68) (lv' := [(4, .int s0), (0, .ref (τ.2.2 30)), (1, .int x1), (2, .int x2), (3, .int x3)]) o d_X_spread1_68 (by decide) rfl ?_
  refine gw_aload_n (pc := 70) o d_X_spread1_70 rfl 1 rfl ?_
  refine gE_get_spare (pc := 71) o q_104 d_X_spread1_71 ?_
  refine gw_iconst (pc := 74) (v := (0 : Int32)) o d_X_spread1_74 (by decide) ?_
  refine gw_aload_n (pc := 75) o d_X_spread1_75 rfl 1 rfl ?_
  refine gw_aload_n (pc := 76) o d_X_spread1_76 rfl 1 rfl ?_
  refine gE_get_spare (pc := 77) o q_104 d_X_spread1_77 ?_
  refine gw_iconst (pc := 80) (v := (0 : Int32)) o d_X_spread1_80 (by decide) ?_
  refine gE_ald_spare (pc := 81) o (by unfold vp_in; decide) d_X_spread1_81 ?_
  refine gw_iload (pc := 82) o d_X_spread1_82 0 rfl ?_
  refine gw_if_eq (pc := 84) (tgt := 101) o d_X_spread1_84 (by decide) (fun hc => ?_) (fun hc => ?_)
  · have h := h.1 hc
    refine gw_aload_n (pc := 101) o d_X_spread1_101 rfl 1 rfl ?_
    refine gE_get_zeros (pc := 102) o q_95 d_X_spread1_102 ?_
    refine gw_aload_n (pc := 105) o d_X_spread1_105 rfl 1 rfl ?_
    refine gE_get_from (pc := 106) o q_91 d_X_spread1_106 ?_
    refine gw_iload_n (pc := 109) o d_X_spread1_109 rfl 4 rfl ?_
    have hi := h.1
    have h := h.2
    refine gE_ald_from (pc := 110) o hi d_X_spread1_110 ?_
    have hi := h.1
    have h := h.2
    refine gE_ald_zeros (pc := 111) o hi d_X_spread1_111 ?_
    exact gw_sub (lv' := [(0, .ref (τ.2.2 30)), (1, .int x1), (2, .int x2), (3, .int x3), (4, .int s0)]) [1, 2, 3, 4, 0] rfl (wk_X_spread1_b112 o hk32 h)
  · have h := h.2 hc
    refine gw_aload_n (pc := 87) o d_X_spread1_87 rfl 1 rfl ?_
    refine gE_get_ones (pc := 88) o q_94 d_X_spread1_88 ?_
    refine gw_aload_n (pc := 91) o d_X_spread1_91 rfl 1 rfl ?_
    refine gE_get_from (pc := 92) o q_91 d_X_spread1_92 ?_
    refine gw_iload_n (pc := 95) o d_X_spread1_95 rfl 4 rfl ?_
    have hi := h.1
    have h := h.2
    refine gE_ald_from (pc := 96) o hi d_X_spread1_96 ?_
    have hi := h.1
    have h := h.2
    refine gE_ald_ones (pc := 97) o hi d_X_spread1_97 ?_
    refine gw_goto (pc := 98) (tgt := 112) o d_X_spread1_98 (by decide) ?_
    exact gw_sub (lv' := [(0, .ref (τ.2.2 30)), (1, .int x1), (2, .int x2), (3, .int x3), (4, .int s0)]) [1, 2, 3, 4, 0] rfl (wk_X_spread1_b112 o hk32 h)
def X_spread1_b295 (Z : Int32 → xF → xF → Prop) (E : xF) (N : xF) (x3 : Int32) (s1 : Int32) (s2 : Int32) : Prop := vp_in s1 60 ∧ (∀ E_295 : xF, E_295 = xs E 15 s1.toNatClampNeg s2 → ((x3 = 0 ∨ x3 = 1) ∧ (Z x3 E_295 N)))
set_option maxRecDepth 10000 in
theorem wk_X_spread1_b295 {κ : Cx} {τ : xT} {Z : Int32 → xF → xF → Prop} {E : xF} {N : xF} {x3 : Int32} {s1 : Int32} {s2 : Int32} (o : OKc κ (wdX τ) 5 b_X_spread1 "StateExplorer" (some .boolean) (xR 21)) (h : X_spread1_b295 Z E N x3 s1 s2) : GW κ (wdX τ) 5 (0, 0) (xMQ κ (wdX τ) (xR 21) (z12_i Z)) (E, N) 295 [(3, .int x3)] [.int s2, .int s1, .ref (τ.2.2 15)] := by
  unfold X_spread1_b295 at h
  have hi := h.1
  have h := h.2
  refine gE_ast_zeros (pc := 295) o hi d_X_spread1_295 (fun E_295 eE_295 => ?_)
  have h := h E_295 eE_295
  refine gw_iload_n (pc := 296) o d_X_spread1_296 rfl 0 rfl ?_
  exact gw_zret (pc := 297) o ⟨Nat.le_refl _, Nat.le_refl _⟩ h.1 (z12_i.mk h.2) d_X_spread1_297
def X_spread1_b270 (Z : Int32 → xF → xF → Prop) (E : xF) (N : xF) (x1 : Int32) (x2 : Int32) (x3 : Int32) (s1 : Int32) (s2 : Int32) : Prop := vp_in s1 60 ∧ (∀ E_270 : xF, E_270 = xs E 14 s1.toNatClampNeg s2 → (((x2 = 0) → (X_spread1_b295 Z E_270 N x3 x1 (E_270 24 (0 : Int32).toNatClampNeg))) ∧ (¬ (x2 = 0) → (X_spread1_b295 Z E_270 N x3 x1 (E_270 24 (1 : Int32).toNatClampNeg)))))
set_option maxRecDepth 10000 in
theorem wk_X_spread1_b270 {κ : Cx} {τ : xT} {Z : Int32 → xF → xF → Prop} {E : xF} {N : xF} {x1 : Int32} {x2 : Int32} {x3 : Int32} {s1 : Int32} {s2 : Int32} (o : OKc κ (wdX τ) 5 b_X_spread1 "StateExplorer" (some .boolean) (xR 21)) (h : X_spread1_b270 Z E N x1 x2 x3 s1 s2) : GW κ (wdX τ) 5 (0, 0) (xMQ κ (wdX τ) (xR 21) (z12_i Z)) (E, N) 270 [(0, .ref (τ.2.2 30)), (1, .int x1), (2, .int x2), (3, .int x3)] [.int s2, .int s1, .ref (τ.2.2 14)] := by
  unfold X_spread1_b270 at h
  have hi := h.1
  have h := h.2
  refine gE_ast_ones (pc := 270) o hi d_X_spread1_270 (fun E_270 eE_270 => ?_)
  have h := h E_270 eE_270
  refine gw_aload_n (pc := 271) o d_X_spread1_271 rfl 0 rfl ?_
  refine gE_get_zeros (pc := 272) o q_95 d_X_spread1_272 ?_
  refine gw_iload_n (pc := 275) o d_X_spread1_275 rfl 1 rfl ?_
  refine gw_iload_n (pc := 276) o d_X_spread1_276 rfl 2 rfl ?_
  refine gw_if_eq (pc := 277) (tgt := 289) o d_X_spread1_277 (by decide) (fun hc => ?_) (fun hc => ?_)
  · have h := h.1 hc
    refine gw_aload_n (pc := 289) o d_X_spread1_289 rfl 0 rfl ?_
    refine gE_get_spare (pc := 290) o q_104 d_X_spread1_290 ?_
    refine gw_iconst (pc := 293) (v := (0 : Int32)) o d_X_spread1_293 (by decide) ?_
    refine gE_ald_spare (pc := 294) o (by unfold vp_in; decide) d_X_spread1_294 ?_
    exact gw_sub (lv' := [(3, .int x3)]) [3] rfl (wk_X_spread1_b295 o h)
  · have h := h.2 hc
    refine gw_aload_n (pc := 280) o d_X_spread1_280 rfl 0 rfl ?_
    refine gE_get_spare (pc := 281) o q_104 d_X_spread1_281 ?_
    refine gw_iconst (pc := 284) (v := (1 : Int32)) o d_X_spread1_284 (by decide) ?_
    refine gE_ald_spare (pc := 285) o (by unfold vp_in; decide) d_X_spread1_285 ?_
    refine gw_goto (pc := 286) (tgt := 295) o d_X_spread1_286 (by decide) ?_
    exact gw_sub (lv' := [(3, .int x3)]) [3] rfl (wk_X_spread1_b295 o h)
def X_spread1_b245 (Z : Int32 → xF → xF → Prop) (E : xF) (N : xF) (x1 : Int32) (x2 : Int32) (s0 : Int32) : Prop := ((x2 = 0) → (X_spread1_b270 Z E N x1 x2 s0 x1 (E 24 (1 : Int32).toNatClampNeg))) ∧ (¬ (x2 = 0) → (X_spread1_b270 Z E N x1 x2 s0 x1 (E 24 (0 : Int32).toNatClampNeg)))
set_option maxRecDepth 10000 in
theorem wk_X_spread1_b245 {κ : Cx} {τ : xT} {Z : Int32 → xF → xF → Prop} {E : xF} {N : xF} {x1 : Int32} {x2 : Int32} {s0 : Int32} (o : OKc κ (wdX τ) 5 b_X_spread1 "StateExplorer" (some .boolean) (xR 21)) (h : X_spread1_b245 Z E N x1 x2 s0) : GW κ (wdX τ) 5 (0, 0) (xMQ κ (wdX τ) (xR 21) (z12_i Z)) (E, N) 245 [(0, .ref (τ.2.2 30)), (1, .int x1), (2, .int x2)] [.int s0] := by
  unfold X_spread1_b245 at h
  refine gw_istore_n (pc := 245) (lv' := [(3, .int s0), (0, .ref (τ.2.2 30)), (1, .int x1), (2, .int x2)]) o d_X_spread1_245 rfl (by decide) rfl ?_
  refine gw_aload_n (pc := 246) o d_X_spread1_246 rfl 1 rfl ?_
  refine gE_get_ones (pc := 247) o q_94 d_X_spread1_247 ?_
  refine gw_iload_n (pc := 250) o d_X_spread1_250 rfl 2 rfl ?_
  refine gw_iload_n (pc := 251) o d_X_spread1_251 rfl 3 rfl ?_
  refine gw_if_eq (pc := 252) (tgt := 264) o d_X_spread1_252 (by decide) (fun hc => ?_) (fun hc => ?_)
  · have h := h.1 hc
    refine gw_aload_n (pc := 264) o d_X_spread1_264 rfl 1 rfl ?_
    refine gE_get_spare (pc := 265) o q_104 d_X_spread1_265 ?_
    refine gw_iconst (pc := 268) (v := (1 : Int32)) o d_X_spread1_268 (by decide) ?_
    refine gE_ald_spare (pc := 269) o (by unfold vp_in; decide) d_X_spread1_269 ?_
    exact gw_sub (lv' := [(0, .ref (τ.2.2 30)), (1, .int x1), (2, .int x2), (3, .int s0)]) [1, 2, 3, 0] rfl (wk_X_spread1_b270 o h)
  · have h := h.2 hc
    refine gw_aload_n (pc := 255) o d_X_spread1_255 rfl 1 rfl ?_
    refine gE_get_spare (pc := 256) o q_104 d_X_spread1_256 ?_
    refine gw_iconst (pc := 259) (v := (0 : Int32)) o d_X_spread1_259 (by decide) ?_
    refine gE_ald_spare (pc := 260) o (by unfold vp_in; decide) d_X_spread1_260 ?_
    refine gw_goto (pc := 261) (tgt := 270) o d_X_spread1_261 (by decide) ?_
    exact gw_sub (lv' := [(0, .ref (τ.2.2 30)), (1, .int x1), (2, .int x2), (3, .int s0)]) [1, 2, 3, 0] rfl (wk_X_spread1_b270 o h)
def X_spread1_b32 (Z : Int32 → xF → xF → Prop) (k32 : Int32 → xF → xF → Prop) (E : xF) (N : xF) (x1 : Int32) (x2 : Int32) (x3 : Int32) : Prop := (((E 30 2) ≤ x3) → (((x2 = 0) → (vp_in x1 60 ∧ ((((E 24 (0 : Int32).toNatClampNeg) = (E 15 x1.toNatClampNeg)) → (vp_in x1 60 ∧ ((((E 24 (1 : Int32).toNatClampNeg) = (E 14 x1.toNatClampNeg)) → (X_spread1_b245 Z E N x1 x2 (0 : Int32))) ∧ (¬ ((E 24 (1 : Int32).toNatClampNeg) = (E 14 x1.toNatClampNeg)) → (X_spread1_b245 Z E N x1 x2 (1 : Int32)))))) ∧ (¬ ((E 24 (0 : Int32).toNatClampNeg) = (E 15 x1.toNatClampNeg)) → (X_spread1_b245 Z E N x1 x2 (1 : Int32)))))) ∧ (¬ (x2 = 0) → (vp_in x1 60 ∧ ((((E 24 (0 : Int32).toNatClampNeg) = (E 14 x1.toNatClampNeg)) → (vp_in x1 60 ∧ ((((E 24 (1 : Int32).toNatClampNeg) = (E 15 x1.toNatClampNeg)) → (X_spread1_b245 Z E N x1 x2 (0 : Int32))) ∧ (¬ ((E 24 (1 : Int32).toNatClampNeg) = (E 15 x1.toNatClampNeg)) → (X_spread1_b245 Z E N x1 x2 (1 : Int32)))))) ∧ (¬ ((E 24 (0 : Int32).toNatClampNeg) = (E 14 x1.toNatClampNeg)) → (X_spread1_b245 Z E N x1 x2 (1 : Int32)))))))) ∧ (¬ ((E 30 2) ≤ x3) → (vp_in x3 240 ∧ ((((E 10 x3.toNatClampNeg) = x1) → (vp_in x3 240 ∧ (((x2 = (E 12 x3.toNatClampNeg)) → (X_spread1_b68 Z k32 E N x1 x2 x3 (0 : Int32))) ∧ (¬ (x2 = (E 12 x3.toNatClampNeg)) → (X_spread1_b68 Z k32 E N x1 x2 x3 (1 : Int32)))))) ∧ (¬ ((E 10 x3.toNatClampNeg) = x1) → (X_spread1_b162 Z k32 E N x1 x2 x3)))))
set_option maxRecDepth 10000 in
theorem wk_X_spread1_b32 {κ : Cx} {τ : xT} {Z : Int32 → xF → xF → Prop} {k32 : Int32 → xF → xF → Prop} {E : xF} {N : xF} {x1 : Int32} {x2 : Int32} {x3 : Int32} (o : OKc κ (wdX τ) 5 b_X_spread1 "StateExplorer" (some .boolean) (xR 21)) (hk32 : ∀ (x3 : Int32) (E : xF) (N : xF), k32 x3 E N → GW κ (wdX τ) 5 (0, 0) (xMQ κ (wdX τ) (xR 21) (z12_i Z)) (E, N) 32 [(0, .ref (τ.2.2 30)), (1, .int x1), (2, .int x2), (3, .int x3)] []) (h : X_spread1_b32 Z k32 E N x1 x2 x3) : GW κ (wdX τ) 5 (0, 0) (xMQ κ (wdX τ) (xR 21) (z12_i Z)) (E, N) 32 [(0, .ref (τ.2.2 30)), (1, .int x1), (2, .int x2), (3, .int x3)] [] := by
  unfold X_spread1_b32 at h
  refine gw_iload_n (pc := 32) o d_X_spread1_32 rfl 3 rfl ?_
  refine gw_aload_n (pc := 33) o d_X_spread1_33 rfl 0 rfl ?_
  refine gE_get_feeds (pc := 34) o q_82 d_X_spread1_34 ?_
  refine gw_icmp_ge (pc := 37) (tgt := 168) o d_X_spread1_37 (by decide) (fun hc => ?_) (fun hc => ?_)
  · have h := h.1 hc
    refine gw_iload_n (pc := 168) o d_X_spread1_168 rfl 2 rfl ?_
    refine gw_if_eq (pc := 169) (tgt := 210) o d_X_spread1_169 (by decide) (fun hc => ?_) (fun hc => ?_)
    · have h := h.1 hc
      refine gw_aload_n (pc := 210) o d_X_spread1_210 rfl 0 rfl ?_
      refine gE_get_spare (pc := 211) o q_104 d_X_spread1_211 ?_
      refine gw_iconst (pc := 214) (v := (0 : Int32)) o d_X_spread1_214 (by decide) ?_
      refine gE_ald_spare (pc := 215) o (by unfold vp_in; decide) d_X_spread1_215 ?_
      refine gw_aload_n (pc := 216) o d_X_spread1_216 rfl 0 rfl ?_
      refine gE_get_zeros (pc := 217) o q_95 d_X_spread1_217 ?_
      refine gw_iload_n (pc := 220) o d_X_spread1_220 rfl 1 rfl ?_
      have hi := h.1
      have h := h.2
      refine gE_ald_zeros (pc := 221) o hi d_X_spread1_221 ?_
      refine gw_icmp_ne (pc := 222) (tgt := 240) o d_X_spread1_222 (by decide) (fun hc => ?_) (fun hc => ?_)
      · have h := h.2 hc
        refine gw_iconst (pc := 240) (v := (1 : Int32)) o d_X_spread1_240 (by decide) ?_
        refine gw_goto (pc := 241) (tgt := 245) o d_X_spread1_241 (by decide) ?_
        exact gw_sub (lv' := [(0, .ref (τ.2.2 30)), (1, .int x1), (2, .int x2)]) [0, 1, 2] rfl (wk_X_spread1_b245 o h)
      · have h := h.1 hc
        refine gw_aload_n (pc := 225) o d_X_spread1_225 rfl 0 rfl ?_
        refine gE_get_spare (pc := 226) o q_104 d_X_spread1_226 ?_
        refine gw_iconst (pc := 229) (v := (1 : Int32)) o d_X_spread1_229 (by decide) ?_
        refine gE_ald_spare (pc := 230) o (by unfold vp_in; decide) d_X_spread1_230 ?_
        refine gw_aload_n (pc := 231) o d_X_spread1_231 rfl 0 rfl ?_
        refine gE_get_ones (pc := 232) o q_94 d_X_spread1_232 ?_
        refine gw_iload_n (pc := 235) o d_X_spread1_235 rfl 1 rfl ?_
        have hi := h.1
        have h := h.2
        refine gE_ald_ones (pc := 236) o hi d_X_spread1_236 ?_
        refine gw_icmp_eq (pc := 237) (tgt := 244) o d_X_spread1_237 (by decide) (fun hc => ?_) (fun hc => ?_)
        · have h := h.1 hc
          refine gw_iconst (pc := 244) (v := (0 : Int32)) o d_X_spread1_244 (by decide) ?_
          exact gw_sub (lv' := [(0, .ref (τ.2.2 30)), (1, .int x1), (2, .int x2)]) [0, 1, 2] rfl (wk_X_spread1_b245 o h)
        · have h := h.2 hc
          refine gw_iconst (pc := 240) (v := (1 : Int32)) o d_X_spread1_240 (by decide) ?_
          refine gw_goto (pc := 241) (tgt := 245) o d_X_spread1_241 (by decide) ?_
          exact gw_sub (lv' := [(0, .ref (τ.2.2 30)), (1, .int x1), (2, .int x2)]) [0, 1, 2] rfl (wk_X_spread1_b245 o h)
    · have h := h.2 hc
      refine gw_aload_n (pc := 172) o d_X_spread1_172 rfl 0 rfl ?_
      refine gE_get_spare (pc := 173) o q_104 d_X_spread1_173 ?_
      refine gw_iconst (pc := 176) (v := (0 : Int32)) o d_X_spread1_176 (by decide) ?_
      refine gE_ald_spare (pc := 177) o (by unfold vp_in; decide) d_X_spread1_177 ?_
      refine gw_aload_n (pc := 178) o d_X_spread1_178 rfl 0 rfl ?_
      refine gE_get_ones (pc := 179) o q_94 d_X_spread1_179 ?_
      refine gw_iload_n (pc := 182) o d_X_spread1_182 rfl 1 rfl ?_
      have hi := h.1
      have h := h.2
      refine gE_ald_ones (pc := 183) o hi d_X_spread1_183 ?_
      refine gw_icmp_ne (pc := 184) (tgt := 202) o d_X_spread1_184 (by decide) (fun hc => ?_) (fun hc => ?_)
      · have h := h.2 hc
        refine gw_iconst (pc := 202) (v := (1 : Int32)) o d_X_spread1_202 (by decide) ?_
        refine gw_goto (pc := 203) (tgt := 245) o d_X_spread1_203 (by decide) ?_
        exact gw_sub (lv' := [(0, .ref (τ.2.2 30)), (1, .int x1), (2, .int x2)]) [0, 1, 2] rfl (wk_X_spread1_b245 o h)
      · have h := h.1 hc
        refine gw_aload_n (pc := 187) o d_X_spread1_187 rfl 0 rfl ?_
        refine gE_get_spare (pc := 188) o q_104 d_X_spread1_188 ?_
        refine gw_iconst (pc := 191) (v := (1 : Int32)) o d_X_spread1_191 (by decide) ?_
        refine gE_ald_spare (pc := 192) o (by unfold vp_in; decide) d_X_spread1_192 ?_
        refine gw_aload_n (pc := 193) o d_X_spread1_193 rfl 0 rfl ?_
        refine gE_get_zeros (pc := 194) o q_95 d_X_spread1_194 ?_
        refine gw_iload_n (pc := 197) o d_X_spread1_197 rfl 1 rfl ?_
        have hi := h.1
        have h := h.2
        refine gE_ald_zeros (pc := 198) o hi d_X_spread1_198 ?_
        refine gw_icmp_eq (pc := 199) (tgt := 206) o d_X_spread1_199 (by decide) (fun hc => ?_) (fun hc => ?_)
        · have h := h.1 hc
          refine gw_iconst (pc := 206) (v := (0 : Int32)) o d_X_spread1_206 (by decide) ?_
          refine gw_goto (pc := 207) (tgt := 245) o d_X_spread1_207 (by decide) ?_
          exact gw_sub (lv' := [(0, .ref (τ.2.2 30)), (1, .int x1), (2, .int x2)]) [0, 1, 2] rfl (wk_X_spread1_b245 o h)
        · have h := h.2 hc
          refine gw_iconst (pc := 202) (v := (1 : Int32)) o d_X_spread1_202 (by decide) ?_
          refine gw_goto (pc := 203) (tgt := 245) o d_X_spread1_203 (by decide) ?_
          exact gw_sub (lv' := [(0, .ref (τ.2.2 30)), (1, .int x1), (2, .int x2)]) [0, 1, 2] rfl (wk_X_spread1_b245 o h)
  · have h := h.2 hc
    refine gw_aload_n (pc := 40) o d_X_spread1_40 rfl 0 rfl ?_
    refine gE_get_to (pc := 41) o q_90 d_X_spread1_41 ?_
    refine gw_iload_n (pc := 44) o d_X_spread1_44 rfl 3 rfl ?_
    have hi := h.1
    have h := h.2
    refine gE_ald_to (pc := 45) o hi d_X_spread1_45 ?_
    refine gw_iload_n (pc := 46) o d_X_spread1_46 rfl 1 rfl ?_
    refine gw_icmp_eq (pc := 47) (tgt := 53) o d_X_spread1_47 (by decide) (fun hc => ?_) (fun hc => ?_)
    · have h := h.1 hc
      refine gw_iload_n (pc := 53) o d_X_spread1_53 rfl 2 rfl ?_
      refine gw_aload_n (pc := 54) o d_X_spread1_54 rfl 0 rfl ?_
      refine gE_get_negated (pc := 55) o q_92 d_X_spread1_55 ?_
      refine gw_iload_n (pc := 58) o d_X_spread1_58 rfl 3 rfl ?_
      have hi := h.1
      have h := h.2
      refine gE_ald_negated (pc := 59) o hi d_X_spread1_59 ?_
      refine gw_icmp_eq (pc := 60) (tgt := 67) o d_X_spread1_60 (by decide) (fun hc => ?_) (fun hc => ?_)
      · have h := h.1 hc
        refine gw_iconst (pc := 67) (v := (0 : Int32)) o d_X_spread1_67 (by decide) ?_
        exact gw_sub (lv' := [(0, .ref (τ.2.2 30)), (1, .int x1), (2, .int x2), (3, .int x3)]) [0, 1, 2, 3] rfl (wk_X_spread1_b68 o hk32 h)
      · have h := h.2 hc
        refine gw_iconst (pc := 63) (v := (1 : Int32)) o d_X_spread1_63 (by decide) ?_
        refine gw_goto (pc := 64) (tgt := 68) o d_X_spread1_64 (by decide) ?_
        exact gw_sub (lv' := [(0, .ref (τ.2.2 30)), (1, .int x1), (2, .int x2), (3, .int x3)]) [0, 1, 2, 3] rfl (wk_X_spread1_b68 o hk32 h)
    · have h := h.2 hc
      refine gw_goto (pc := 50) (tgt := 162) o d_X_spread1_50 (by decide) ?_
      exact gw_sub (lv' := [(0, .ref (τ.2.2 30)), (1, .int x1), (2, .int x2), (3, .int x3)]) [0, 1, 2, 3] rfl (wk_X_spread1_b162 o hk32 h)
def X_spread1_L32 (Z : Int32 → xF → xF → Prop) (E : xF) (N : xF) (x1 : Int32) (x2 : Int32) (x3 : Int32) : Prop := LOOP3 (fun k32 x3 E N => X_spread1_b32 Z k32 E N x1 x2 x3) x3 E N
theorem wk_X_spread1_L32 {κ : Cx} {τ : xT} {Z : Int32 → xF → xF → Prop} {E : xF} {N : xF} {x1 : Int32} {x2 : Int32} {x3 : Int32} (o : OKc κ (wdX τ) 5 b_X_spread1 "StateExplorer" (some .boolean) (xR 21)) (h : X_spread1_L32 Z E N x1 x2 x3) : GW κ (wdX τ) 5 (0, 0) (xMQ κ (wdX τ) (xR 21) (z12_i Z)) (E, N) 32 [(0, .ref (τ.2.2 30)), (1, .int x1), (2, .int x2), (3, .int x3)] [] := by
  unfold X_spread1_L32 at h
  exact LOOP3.use (G := fun x3 E N => GW κ (wdX τ) 5 (0, 0) (xMQ κ (wdX τ) (xR 21) (z12_i Z)) (E, N) 32 [(0, .ref (τ.2.2 30)), (1, .int x1), (2, .int x2), (3, .int x3)] []) (fun k32 x3 E N hk32 h => wk_X_spread1_b32 o hk32 h) h
def X_spread1_b15 (Z : Int32 → xF → xF → Prop) (E : xF) (N : xF) (x1 : Int32) (s0 : Int32) : Prop := ∀ E_22 : xF, E_22 = xs E 24 (0 : Int32).toNatClampNeg (1 : Int32) → (∀ E_29 : xF, E_29 = xs E_22 24 (1 : Int32).toNatClampNeg (0 : Int32) → (X_spread1_L32 Z E_29 N x1 s0 (0 : Int32)))
set_option maxRecDepth 10000 in
theorem wk_X_spread1_b15 {κ : Cx} {τ : xT} {Z : Int32 → xF → xF → Prop} {E : xF} {N : xF} {x1 : Int32} {s0 : Int32} (o : OKc κ (wdX τ) 5 b_X_spread1 "StateExplorer" (some .boolean) (xR 21)) (h : X_spread1_b15 Z E N x1 s0) : GW κ (wdX τ) 5 (0, 0) (xMQ κ (wdX τ) (xR 21) (z12_i Z)) (E, N) 15 [(0, .ref (τ.2.2 30)), (1, .int x1)] [.int s0] := by
  unfold X_spread1_b15 at h
  refine gw_istore_n (pc := 15) (lv' := [(2, .int s0), (0, .ref (τ.2.2 30)), (1, .int x1)]) o d_X_spread1_15 rfl (by decide) rfl ?_
  refine gw_aload_n (pc := 16) o d_X_spread1_16 rfl 1 rfl ?_
  refine gE_get_spare (pc := 17) o q_104 d_X_spread1_17 ?_
  refine gw_iconst (pc := 20) (v := (0 : Int32)) o d_X_spread1_20 (by decide) ?_
  refine gw_iconst (pc := 21) (v := (1 : Int32)) o d_X_spread1_21 (by decide) ?_
  refine gE_ast_spare (pc := 22) o (by unfold vp_in; decide) d_X_spread1_22 (fun E_22 eE_22 => ?_)
  have h := h E_22 eE_22
  refine gw_aload_n (pc := 23) o d_X_spread1_23 rfl 1 rfl ?_
  refine gE_get_spare (pc := 24) o q_104 d_X_spread1_24 ?_
  refine gw_iconst (pc := 27) (v := (1 : Int32)) o d_X_spread1_27 (by decide) ?_
  refine gw_iconst (pc := 28) (v := (0 : Int32)) o d_X_spread1_28 (by decide) ?_
  refine gE_ast_spare (pc := 29) o (by unfold vp_in; decide) d_X_spread1_29 (fun E_29 eE_29 => ?_)
  have h := h E_29 eE_29
  refine gw_iconst (pc := 30) (v := (0 : Int32)) o d_X_spread1_30 (by decide) ?_
  refine gw_istore_n (pc := 31) (lv' := [(3, .int (0 : Int32)), (2, .int s0), (0, .ref (τ.2.2 30)), (1, .int x1)]) o d_X_spread1_31 rfl (by decide) rfl ?_
  exact gw_sub (lv' := [(0, .ref (τ.2.2 30)), (1, .int x1), (2, .int s0), (3, .int (0 : Int32))]) [2, 3, 1, 0] rfl (wk_X_spread1_L32 o h)
def X_spread1_b0 (Z : Int32 → xF → xF → Prop) (E : xF) (N : xF) (x1 : Int32) : Prop := vp_in x1 60 ∧ ((((E 6 x1.toNatClampNeg) = (2 : Int32)) → (X_spread1_b15 Z E N x1 (1 : Int32))) ∧ (¬ ((E 6 x1.toNatClampNeg) = (2 : Int32)) → (X_spread1_b15 Z E N x1 (0 : Int32))))
set_option maxRecDepth 10000 in
theorem wk_X_spread1_b0 {κ : Cx} {τ : xT} {Z : Int32 → xF → xF → Prop} {E : xF} {N : xF} {x1 : Int32} (o : OKc κ (wdX τ) 5 b_X_spread1 "StateExplorer" (some .boolean) (xR 21)) (h : X_spread1_b0 Z E N x1) : GW κ (wdX τ) 5 (0, 0) (xMQ κ (wdX τ) (xR 21) (z12_i Z)) (E, N) 0 [(0, .ref (τ.2.2 30)), (1, .int x1)] [] := by
  unfold X_spread1_b0 at h
  refine gw_aload_n (pc := 0) o d_X_spread1_0 rfl 0 rfl ?_
  refine gE_get_sorts (pc := 1) o q_86 d_X_spread1_1 ?_
  refine gw_iload_n (pc := 4) o d_X_spread1_4 rfl 1 rfl ?_
  have hi := h.1
  have h := h.2
  refine gE_ald_sorts (pc := 5) o hi d_X_spread1_5 ?_
  refine gw_iconst (pc := 6) (v := (2 : Int32)) o d_X_spread1_6 (by decide) ?_
  refine gw_icmp_ne (pc := 7) (tgt := 14) o d_X_spread1_7 (by decide) (fun hc => ?_) (fun hc => ?_)
  · have h := h.2 hc
    refine gw_iconst (pc := 14) (v := (0 : Int32)) o d_X_spread1_14 (by decide) ?_
    exact gw_sub (lv' := [(0, .ref (τ.2.2 30)), (1, .int x1)]) [0, 1] rfl (wk_X_spread1_b15 o h)
  · have h := h.1 hc
    refine gw_iconst (pc := 10) (v := (1 : Int32)) o d_X_spread1_10 (by decide) ?_
    refine gw_goto (pc := 11) (tgt := 15) o d_X_spread1_11 (by decide) ?_
    exact gw_sub (lv' := [(0, .ref (τ.2.2 30)), (1, .int x1)]) [0, 1] rfl (wk_X_spread1_b15 o h)
def w_X_spread1  (E : xF) (N : xF) (x1 : Int32) (Z : Int32 → xF → xF → Prop) : Prop := X_spread1_b0  Z E N x1
theorem ct_X_spread1 {l : Launch} {τ : xT} {E : xF} {N : xF} {x1 : Int32} {Z : Int32 → xF → xF → Prop} (hD : xD (wdX τ)) (h : w_X_spread1  E N x1 Z) : CT l (wdX τ) y_X_spread1 (.code y_X_spread1 b_X_spread1 5 (some .boolean)) (xR 21) [.ref (τ.2.2 30), .int x1] (E, N) (z12_i Z) := by
  subst_vars
  exact CT.of (by decide) (Nat.le_of_ble_eq_true rfl) hD (fun κ hl ha o => gw_sub (lv' := [(0, .ref (τ.2.2 30)), (1, .int x1)]) [0, 1] rfl (wk_X_spread1_b0 o h))
