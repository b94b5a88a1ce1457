/-! walks, printed by mk.py -/
def X_always_b76 (Z : Int32 → xF → xF → Prop) (E : xF) (N : xF) (s0 : Int32) : Prop := Z s0 E N
set_option maxRecDepth 10000 in
theorem wk_X_always_b76 {κ : Cx} {τ : xT} {Z : Int32 → xF → xF → Prop} {E : xF} {N : xF} {s0 : Int32} (o : OKc κ (wdX τ) 2 b_X_always "StateExplorer" (some .int) (xR 22)) (h : X_always_b76 Z E N s0) : GW κ (wdX τ) 2 (0, 0) (xMQ κ (wdX τ) (xR 22) (z12_i Z)) (E, N) 76 [] [.int s0] := by
  unfold X_always_b76 at h
  exact gw_iret (pc := 76) o ⟨Nat.le_refl _, Nat.le_refl _⟩ (z12_i.mk h) d_X_always_76
def X_always_b0 (Z : Int32 → xF → xF → Prop) (E : xF) (N : xF) (x1 : Int32) : Prop := w_X_needsExplored E N (w_X_there E N x1 (fun r6 => w_X_sure E N (fun r16 E_16 N_16 => ∀ E_19 : xF, E_19 = xs E_16 24 (0 : Int32).toNatClampNeg r16 → ((((E_19 24 (0 : Int32).toNatClampNeg) = 0) → (Z (2 : Int32) E_19 N_16)) ∧ (¬ ((E_19 24 (0 : Int32).toNatClampNeg) = 0) → (vp_in x1 60 ∧ (w_X_and E_19 N_16 (E_19 24 (0 : Int32).toNatClampNeg) (E_19 14 x1.toNatClampNeg) (fun r44 E_44 N_44 => ((r44 = 0) → (Z (0 : Int32) E_44 N_44)) ∧ (¬ (r44 = 0) → (vp_in x1 60 ∧ (w_X_and E_44 N_44 (E_44 24 (0 : Int32).toNatClampNeg) (E_44 15 x1.toNatClampNeg) (fun r65 E_65 N_65 => ((r65 = 0) → (X_always_b76 Z E_65 N_65 (1 : Int32))) ∧ (¬ (r65 = 0) → (X_always_b76 Z E_65 N_65 (2 : Int32)))))))))))))))
set_option maxRecDepth 10000 in
theorem wk_X_always_b0 {κ : Cx} {τ : xT} {Z : Int32 → xF → xF → Prop} {E : xF} {N : xF} {x1 : Int32} (o : OKc κ (wdX τ) 2 b_X_always "StateExplorer" (some .int) (xR 22)) (h : X_always_b0 Z E N x1) : GW κ (wdX τ) 2 (0, 0) (xMQ κ (wdX τ) (xR 22) (z12_i Z)) (E, N) 0 [(0, .ref (τ.2.2 30)), (1, .int x1)] [] := by
  unfold X_always_b0 at h
  refine gw_aload_n (pc := 0) o d_X_always_0 rfl 0 rfl ?_
  refine gw_callV (pc := 1) (b := τ.2.2 30) (As := []) (st := []) o (ct_X_needsExplored o.hD h) mi_X_needsExplored q_471 q_473 qs_26 0 rfl rfl (xRo_of (by omega) (by decide)) rfl rfl (Nat.le_of_ble_eq_true rfl) d_X_always_1 (kk_p_v rfl (fun h => ?_))
  refine gw_aload_n (pc := 4) o d_X_always_4 rfl 0 rfl ?_
  refine gw_iload_n (pc := 5) o d_X_always_5 rfl 1 rfl ?_
  refine gw_callV (pc := 6) (b := τ.2.2 30) (As := [.int x1]) (st := []) o (ct_X_there o.hD h) mi_X_there q_412 q_414 qs_23 0 rfl rfl (xRo_of (by omega) (by decide)) rfl rfl (Nat.le_of_ble_eq_true rfl) d_X_always_6 (kk_p_i rfl (fun r6 h => ?_))
  refine gw_pop (pc := 9) o d_X_always_9 rfl ?_
  refine gw_aload_n (pc := 10) o d_X_always_10 rfl 0 rfl ?_
  refine gE_get_spare (pc := 11) o q_104 d_X_always_11 ?_
  refine gw_iconst (pc := 14) (v := (0 : Int32)) o d_X_always_14 (by decide) ?_
  refine gw_aload_n (pc := 15) o d_X_always_15 rfl 0 rfl ?_
  refine gw_callV (pc := 16) (b := τ.2.2 30) (As := []) (st := [.int (0 : Int32), .ref (τ.2.2 24)]) o (ct_X_sure o.hD h) mi_X_sure q_328 q_330 qs_21 0 rfl rfl (xRo_of (by omega) (by decide)) rfl rfl (Nat.le_of_ble_eq_true rfl) d_X_always_16 (kk_12_i rfl (fun r16 E_16 N_16 h => ?_))
  refine gE_ast_spare (pc := 19) o (by unfold vp_in; decide) d_X_always_19 (fun E_19 eE_19 => ?_)
  have h := h E_19 eE_19
  refine gw_aload_n (pc := 20) o d_X_always_20 rfl 0 rfl ?_
  refine gE_get_spare (pc := 21) o q_104 d_X_always_21 ?_
  refine gw_iconst (pc := 24) (v := (0 : Int32)) o d_X_always_24 (by decide) ?_
  refine gE_ald_spare (pc := 25) o (by unfold vp_in; decide) d_X_always_25 ?_
  refine gw_if_ne (pc := 26) (tgt := 31) o d_X_always_26 (by decide) (fun hc => ?_) (fun hc => ?_)
  · have h := h.2 hc
    refine gw_aload_n (pc := 31) o d_X_always_31 rfl 0 rfl ?_
    refine gw_aload_n (pc := 32) o d_X_always_32 rfl 0 rfl ?_
    refine gE_get_spare (pc := 33) o q_104 d_X_always_33 ?_
    refine gw_iconst (pc := 36) (v := (0 : Int32)) o d_X_always_36 (by decide) ?_
    refine gE_ald_spare (pc := 37) o (by unfold vp_in; decide) d_X_always_37 ?_
    refine gw_aload_n (pc := 38) o d_X_always_38 rfl 0 rfl ?_
    refine gE_get_ones (pc := 39) o q_94 d_X_always_39 ?_
    refine gw_iload_n (pc := 42) o d_X_always_42 rfl 1 rfl ?_
    have hi := h.1
    have h := h.2
    refine gE_ald_ones (pc := 43) o hi d_X_always_43 ?_
    refine gw_callV (pc := 44) (b := τ.2.2 30) (As := [.int (E_19 24 (0 : Int32).toNatClampNeg), .int (E_19 14 x1.toNatClampNeg)]) (st := []) o (ct_X_and o.hD h) mi_X_and q_273 q_275 qs_10 0 rfl rfl (xRo_of (by omega) (by decide)) rfl rfl (Nat.le_of_ble_eq_true rfl) d_X_always_44 (kk_12_i rfl (fun r44 E_44 N_44 h => ?_))
    refine gw_if_ne (pc := 47) (tgt := 52) o d_X_always_47 (by decide) (fun hc => ?_) (fun hc => ?_)
    · have h := h.2 hc
      refine gw_aload_n (pc := 52) o d_X_always_52 rfl 0 rfl ?_
      refine gw_aload_n (pc := 53) o d_X_always_53 rfl 0 rfl ?_
      refine gE_get_spare (pc := 54) o q_104 d_X_always_54 ?_
      refine gw_iconst (pc := 57) (v := (0 : Int32)) o d_X_always_57 (by decide) ?_
      refine gE_ald_spare (pc := 58) o (by unfold vp_in; decide) d_X_always_58 ?_
      refine gw_aload_n (pc := 59) o d_X_always_59 rfl 0 rfl ?_
      refine gE_get_zeros (pc := 60) o q_95 d_X_always_60 ?_
      refine gw_iload_n (pc := 63) o d_X_always_63 rfl 1 rfl ?_
      have hi := h.1
      have h := h.2
      refine gE_ald_zeros (pc := 64) o hi d_X_always_64 ?_
      refine gw_callV (pc := 65) (b := τ.2.2 30) (As := [.int (E_44 24 (0 : Int32).toNatClampNeg), .int (E_44 15 x1.toNatClampNeg)]) (st := []) o (ct_X_and o.hD h) mi_X_and q_273 q_275 qs_10 0 rfl rfl (xRo_of (by omega) (by decide)) rfl rfl (Nat.le_of_ble_eq_true rfl) d_X_always_65 (kk_12_i rfl (fun r65 E_65 N_65 h => ?_))
      refine gw_if_ne (pc := 68) (tgt := 75) o d_X_always_68 (by decide) (fun hc => ?_) (fun hc => ?_)
      · have h := h.2 hc
        refine gw_iconst (pc := 75) (v := (2 : Int32)) o d_X_always_75 (by decide) ?_
        exact gw_sub (lv' := []) [] rfl (wk_X_always_b76 o h)
      · have h := h.1 hc
        refine gw_iconst (pc := 71) (v := (1 : Int32)) o d_X_always_71 (by decide) ?_
        refine gw_goto (pc := 72) (tgt := 76) o d_X_always_72 (by decide) ?_
        exact gw_sub (lv' := []) [] rfl (wk_X_always_b76 o h)
    · have h := h.1 hc
      refine gw_iconst (pc := 50) (v := (0 : Int32)) o d_X_always_50 (by decide) ?_
      exact gw_iret (pc := 51) o ⟨Nat.le_refl _, Nat.le_refl _⟩ (z12_i.mk h) d_X_always_51
  · have h := h.1 hc
    refine gw_iconst (pc := 29) (v := (2 : Int32)) o d_X_always_29 (by decide) ?_
    exact gw_iret (pc := 30) o ⟨Nat.le_refl _, Nat.le_refl _⟩ (z12_i.mk h) d_X_always_30
def w_X_always  (E : xF) (N : xF) (x1 : Int32) (Z : Int32 → xF → xF → Prop) : Prop := X_always_b0  Z E N x1
theorem ct_X_always {l : Launch} {τ : xT} {E : xF} {N : xF} {x1 : Int32} {Z : Int32 → xF → xF → Prop} (hD : xD (wdX τ)) (h : w_X_always  E N x1 Z) : CT l (wdX τ) y_X_always (.code y_X_always b_X_always 2 (some .int)) (xR 22) [.ref (τ.2.2 30), .int x1] (E, N) (z12_i Z) := by
  subst_vars
  exact CT.of (by decide) (Nat.le_of_ble_eq_true rfl) hD (fun κ hl ha o => gw_sub (lv' := [(0, .ref (τ.2.2 30)), (1, .int x1)]) [0, 1] rfl (wk_X_always_b0 o h))
def X_isSame_b78 (Z : Int32 → xF → xF → Prop) (E : xF) (N : xF) (s0 : Int32) : Prop := (s0 = 0 ∨ s0 = 1) ∧ (Z s0 E N)
set_option maxRecDepth 10000 in
theorem wk_X_isSame_b78 {κ : Cx} {τ : xT} {Z : Int32 → xF → xF → Prop} {E : xF} {N : xF} {s0 : Int32} (o : OKc κ (wdX τ) 3 b_X_isSame "StateExplorer" (some .boolean) (xR 22)) (h : X_isSame_b78 Z E N s0) : GW κ (wdX τ) 3 (0, 0) (xMQ κ (wdX τ) (xR 22) (z12_i Z)) (E, N) 78 [] [.int s0] := by
  unfold X_isSame_b78 at h
  exact gw_zret (pc := 78) o ⟨Nat.le_refl _, Nat.le_refl _⟩ h.1 (z12_i.mk h.2) d_X_isSame_78
def X_isSame_b0 (Z : Int32 → xF → xF → Prop) (E : xF) (N : xF) (x1 : Int32) (x2 : Int32) : Prop := w_X_needsExplored E N (w_X_there E N x1 (fun r6 => w_X_there E N x2 (fun r12 => w_X_sure E N (fun r22 E_22 N_22 => ∀ E_25 : xF, E_25 = xs E_22 24 (0 : Int32).toNatClampNeg r22 → (vp_in x1 60 ∧ (w_X_and E_25 N_22 (E_25 24 (0 : Int32).toNatClampNeg) (E_25 14 x1.toNatClampNeg) (fun r44 E_44 N_44 => ∀ E_47 : xF, E_47 = xs E_44 24 (1 : Int32).toNatClampNeg r44 → (vp_in x2 60 ∧ (w_X_and E_47 N_44 (E_47 24 (0 : Int32).toNatClampNeg) (E_47 14 x2.toNatClampNeg) (fun r67 E_67 N_67 => (((E_47 24 (1 : Int32).toNatClampNeg) = r67) → (X_isSame_b78 Z E_67 N_67 (1 : Int32))) ∧ (¬ ((E_47 24 (1 : Int32).toNatClampNeg) = r67) → (X_isSame_b78 Z E_67 N_67 (0 : Int32)))))))))))))
set_option maxRecDepth 10000 in
theorem wk_X_isSame_b0 {κ : Cx} {τ : xT} {Z : Int32 → xF → xF → Prop} {E : xF} {N : xF} {x1 : Int32} {x2 : Int32} (o : OKc κ (wdX τ) 3 b_X_isSame "StateExplorer" (some .boolean) (xR 22)) (h : X_isSame_b0 Z E N x1 x2) : GW κ (wdX τ) 3 (0, 0) (xMQ κ (wdX τ) (xR 22) (z12_i Z)) (E, N) 0 [(0, .ref (τ.2.2 30)), (1, .int x1), (2, .int x2)] [] := by
  unfold X_isSame_b0 at h
  refine gw_aload_n (pc := 0) o d_X_isSame_0 rfl 0 rfl ?_
  refine gw_callV (pc := 1) (b := τ.2.2 30) (As := []) (st := []) o (ct_X_needsExplored o.hD h) mi_X_needsExplored q_471 q_473 qs_26 0 rfl rfl (xRo_of (by omega) (by decide)) rfl rfl (Nat.le_of_ble_eq_true rfl) d_X_isSame_1 (kk_p_v rfl (fun h => ?_))
  refine gw_aload_n (pc := 4) o d_X_isSame_4 rfl 0 rfl ?_
  refine gw_iload_n (pc := 5) o d_X_isSame_5 rfl 1 rfl ?_
  refine gw_callV (pc := 6) (b := τ.2.2 30) (As := [.int x1]) (st := []) o (ct_X_there o.hD h) mi_X_there q_412 q_414 qs_23 0 rfl rfl (xRo_of (by omega) (by decide)) rfl rfl (Nat.le_of_ble_eq_true rfl) d_X_isSame_6 (kk_p_i rfl (fun r6 h => ?_))
  refine gw_pop (pc := 9) o d_X_isSame_9 rfl ?_
  refine gw_aload_n (pc := 10) o d_X_isSame_10 rfl 0 rfl ?_
  refine gw_iload_n (pc := 11) o d_X_isSame_11 rfl 2 rfl ?_
  refine gw_callV (pc := 12) (b := τ.2.2 30) (As := [.int x2]) (st := []) o (ct_X_there o.hD h) mi_X_there q_412 q_414 qs_23 0 rfl rfl (xRo_of (by omega) (by decide)) rfl rfl (Nat.le_of_ble_eq_true rfl) d_X_isSame_12 (kk_p_i rfl (fun r12 h => ?_))
  refine gw_pop (pc := 15) o d_X_isSame_15 rfl ?_
  refine gw_aload_n (pc := 16) o d_X_isSame_16 rfl 0 rfl ?_
  refine gE_get_spare (pc := 17) o q_104 d_X_isSame_17 ?_
  refine gw_iconst (pc := 20) (v := (0 : Int32)) o d_X_isSame_20 (by decide) ?_
  refine gw_aload_n (pc := 21) o d_X_isSame_21 rfl 0 rfl ?_
  refine gw_callV (pc := 22) (b := τ.2.2 30) (As := []) (st := [.int (0 : Int32), .ref (τ.2.2 24)]) o (ct_X_sure o.hD h) mi_X_sure q_328 q_330 qs_21 0 rfl rfl (xRo_of (by omega) (by decide)) rfl rfl (Nat.le_of_ble_eq_true rfl) d_X_isSame_22 (kk_12_i rfl (fun r22 E_22 N_22 h => ?_))
  refine gE_ast_spare (pc := 25) o (by unfold vp_in; decide) d_X_isSame_25 (fun E_25 eE_25 => ?_)
  have h := h E_25 eE_25
  refine gw_aload_n (pc := 26) o d_X_isSame_26 rfl 0 rfl ?_
  refine gE_get_spare (pc := 27) o q_104 d_X_isSame_27 ?_
  refine gw_iconst (pc := 30) (v := (1 : Int32)) o d_X_isSame_30 (by decide) ?_
  refine gw_aload_n (pc := 31) o d_X_isSame_31 rfl 0 rfl ?_
  refine gw_aload_n (pc := 32) o d_X_isSame_32 rfl 0 rfl ?_
  refine gE_get_spare (pc := 33) o q_104 d_X_isSame_33 ?_
  refine gw_iconst (pc := 36) (v := (0 : Int32)) o d_X_isSame_36 (by decide) ?_
  refine gE_ald_spare (pc := 37) o (by unfold vp_in; decide) d_X_isSame_37 ?_
  refine gw_aload_n (pc := 38) o d_X_isSame_38 rfl 0 rfl ?_
  refine gE_get_ones (pc := 39) o q_94 d_X_isSame_39 ?_
  refine gw_iload_n (pc := 42) o d_X_isSame_42 rfl 1 rfl ?_
  have hi := h.1
  have h := h.2
  refine gE_ald_ones (pc := 43) o hi d_X_isSame_43 ?_
  refine gw_callV (pc := 44) (b := τ.2.2 30) (As := [.int (E_25 24 (0 : Int32).toNatClampNeg), .int (E_25 14 x1.toNatClampNeg)]) (st := [.int (1 : Int32), .ref (τ.2.2 24)]) o (ct_X_and o.hD h) mi_X_and q_273 q_275 qs_10 0 rfl rfl (xRo_of (by omega) (by decide)) rfl rfl (Nat.le_of_ble_eq_true rfl) d_X_isSame_44 (kk_12_i rfl (fun r44 E_44 N_44 h => ?_))
  refine gE_ast_spare (pc := 47) o (by unfold vp_in; decide) d_X_isSame_47 (fun E_47 eE_47 => ?_)
  have h := h E_47 eE_47
  refine gw_aload_n (pc := 48) o d_X_isSame_48 rfl 0 rfl ?_
  refine gE_get_spare (pc := 49) o q_104 d_X_isSame_49 ?_
  refine gw_iconst (pc := 52) (v := (1 : Int32)) o d_X_isSame_52 (by decide) ?_
  refine gE_ald_spare (pc := 53) o (by unfold vp_in; decide) d_X_isSame_53 ?_
  refine gw_aload_n (pc := 54) o d_X_isSame_54 rfl 0 rfl ?_
  refine gw_aload_n (pc := 55) o d_X_isSame_55 rfl 0 rfl ?_
  refine gE_get_spare (pc := 56) o q_104 d_X_isSame_56 ?_
  refine gw_iconst (pc := 59) (v := (0 : Int32)) o d_X_isSame_59 (by decide) ?_
  refine gE_ald_spare (pc := 60) o (by unfold vp_in; decide) d_X_isSame_60 ?_
  refine gw_aload_n (pc := 61) o d_X_isSame_61 rfl 0 rfl ?_
  refine gE_get_ones (pc := 62) o q_94 d_X_isSame_62 ?_
  refine gw_iload_n (pc := 65) o d_X_isSame_65 rfl 2 rfl ?_
  have hi := h.1
  have h := h.2
  refine gE_ald_ones (pc := 66) o hi d_X_isSame_66 ?_
  refine gw_callV (pc := 67) (b := τ.2.2 30) (As := [.int (E_47 24 (0 : Int32).toNatClampNeg), .int (E_47 14 x2.toNatClampNeg)]) (st := [.int (E_47 24 (1 : Int32).toNatClampNeg)]) o (ct_X_and o.hD h) mi_X_and q_273 q_275 qs_10 0 rfl rfl (xRo_of (by omega) (by decide)) rfl rfl (Nat.le_of_ble_eq_true rfl) d_X_isSame_67 (kk_12_i rfl (fun r67 E_67 N_67 h => ?_))
  refine gw_icmp_ne (pc := 70) (tgt := 77) o d_X_isSame_70 (by decide) (fun hc => ?_) (fun hc => ?_)
  · have h := h.2 hc
    refine gw_iconst (pc := 77) (v := (0 : Int32)) o d_X_isSame_77 (by decide) ?_
    exact gw_sub (lv' := []) [] rfl (wk_X_isSame_b78 o h)
  · have h := h.1 hc
    refine gw_iconst (pc := 73) (v := (1 : Int32)) o d_X_isSame_73 (by decide) ?_
    refine gw_goto (pc := 74) (tgt := 78) o d_X_isSame_74 (by decide) ?_
    exact gw_sub (lv' := []) [] rfl (wk_X_isSame_b78 o h)
def w_X_isSame  (E : xF) (N : xF) (x1 : Int32) (x2 : Int32) (Z : Int32 → xF → xF → Prop) : Prop := X_isSame_b0  Z E N x1 x2
theorem ct_X_isSame {l : Launch} {τ : xT} {E : xF} {N : xF} {x1 : Int32} {x2 : Int32} {Z : Int32 → xF → xF → Prop} (hD : xD (wdX τ)) (h : w_X_isSame  E N x1 x2 Z) : CT l (wdX τ) y_X_isSame (.code y_X_isSame b_X_isSame 3 (some .boolean)) (xR 22) [.ref (τ.2.2 30), .int x1, .int x2] (E, N) (z12_i Z) := by
  subst_vars
  exact CT.of (by decide) (Nat.le_of_ble_eq_true rfl) hD (fun κ hl ha o => gw_sub (lv' := [(0, .ref (τ.2.2 30)), (1, .int x1), (2, .int x2)]) [0, 1, 2] rfl (wk_X_isSame_b0 o h))
def X_group_b0 (Z : Int32 → Prop) (E : xF) (N : xF) (x1 : Int32) : Prop := w_X_needsState E N x1 (vp_in x1 256 ∧ (Z (E 18 x1.toNatClampNeg)))
set_option maxRecDepth 10000 in
theorem wk_X_group_b0 {κ : Cx} {τ : xT} {Z : Int32 → Prop} {E : xF} {N : xF} {x1 : Int32} (o : OKc κ (wdX τ) 2 b_X_group "StateExplorer" (some .int) (xR 2)) (h : X_group_b0 Z E N x1) : GW κ (wdX τ) 2 (0, 0) (xMQ κ (wdX τ) (xR 2) (zp_i (E, N) Z)) (E, N) 0 [(0, .ref (τ.2.2 30)), (1, .int x1)] [] := by
  unfold X_group_b0 at h
  refine gw_aload_n (pc := 0) o d_X_group_0 rfl 0 rfl ?_
  refine gw_iload_n (pc := 1) o d_X_group_1 rfl 1 rfl ?_
  refine gw_callV (pc := 2) (b := τ.2.2 30) (As := [.int x1]) (st := []) o (ct_X_needsState o.hD h) mi_X_needsState q_467 q_469 qs_25 0 rfl rfl (xRo_of (by omega) (by decide)) rfl rfl (Nat.le_of_ble_eq_true rfl) d_X_group_2 (kk_p_v rfl (fun h => ?_))
  refine gw_aload_n (pc := 5) o d_X_group_5 rfl 0 rfl ?_
  refine gE_get_groups (pc := 6) o q_98 d_X_group_6 ?_
  refine gw_iload_n (pc := 9) o d_X_group_9 rfl 1 rfl ?_
  have hi := h.1
  have h := h.2
  refine gE_ald_groups (pc := 10) o hi d_X_group_10 ?_
  exact gw_iret (pc := 11) o ⟨Nat.le_refl _, Nat.le_refl _⟩ (zp_i.mk h) d_X_group_11
def w_X_group  (E : xF) (N : xF) (x1 : Int32) (Z : Int32 → Prop) : Prop := X_group_b0  Z E N x1
theorem ct_X_group {l : Launch} {τ : xT} {E : xF} {N : xF} {x1 : Int32} {Z : Int32 → Prop} (hD : xD (wdX τ)) (h : w_X_group  E N x1 Z) : CT l (wdX τ) y_X_group (.code y_X_group b_X_group 2 (some .int)) (xR 2) [.ref (τ.2.2 30), .int x1] (E, N) (zp_i (E, N) Z) := by
  subst_vars
  exact CT.of (by decide) (Nat.le_of_ble_eq_true rfl) hD (fun κ hl ha o => gw_sub (lv' := [(0, .ref (τ.2.2 30)), (1, .int x1)]) [0, 1] rfl (wk_X_group_b0 o h))
